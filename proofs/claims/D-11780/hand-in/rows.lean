section
/-- a cell of the picture: 1000 stands for the first int, 1001 for the second -/
def ph_dl (o t c : Int32) : Int32 := if c = 1000 then o else if c = 1001 then t else c
def ph_dd (o t : Int32) (a : Nat → Int32) : Nat → Int32 := fun j => ph_dl o t (a j)
def ph_dc (o t : Int32) (u : St2) : St2 := match u with
  | (f, a1, a2, a3, a4, a5, a6, a7, a8, a9, a10, a11, a12) => (f, a1, ph_dd o t a2, a3, a4, a5, a6, ph_dd o t a7, a8, ph_dd o t a9, a10, a11, a12)
def ph_in (x : Int32) (n : Nat) : Bool := decide (¬ (x < 0 ∨ n ≤ x.toNatClampNeg))
def ph_ck {α : Type} (b : Bool) (e : Option α) : Option α := match b with
  | true => e
  | false => none
def ph_if {α : Type} (b : Bool) (x y : Option α) : Option α := match b with
  | true => x
  | false => y
def ph_n3 (k : Int32) : Bool := !decide (k = 3)
def ph_fits (p r : Int32) : Bool := decide (¬ p < 0 ∧ ¬ 2 < p ∧ ¬ r < 0 ∧ ¬ 3 < r)
def ph_to (a4 a5 : Nat → Int32) (p : Int32) : Int32 := ((40 * p) + (20 * (a4 p.toNatClampNeg))) + (a5 p.toNatClampNeg)
def ph_bs (a4 : Nat → Int32) (p : Int32) : Int32 := (40 * p) + (20 * (a4 p.toNatClampNeg))
def ph_assign (u : St2) (p k v : Int32) : Option St2 := match u with
  | (f, a1, a2, a3, a4, a5, a6, a7, a8, a9, a10, a11, a12) => ph_ck (ph_in p 21) (ph_ck (ph_n3 k) (ph_ck (ph_n3 (a1 p.toNatClampNeg)) (some (f, upd a1 p.toNatClampNeg k, upd a2 p.toNatClampNeg v, a3, a4, a5, a6, a7, a8, a9, a10, a11, a12))))
def ph_number (u : St2) (p r v : Int32) : Option St2 := ph_ck (ph_fits p r) (ph_assign u ((4 * p) + r) 1 v)
def ph_nil (u : St2) (p r : Int32) : Option St2 := ph_ck (ph_fits p r) (ph_assign u ((4 * p) + r) 0 0)
def ph_sweep (e : Int32) : Nat → Int32 → St2 → Option St2
  | 0 => fun _ _ => none
  | n + 1 => fun x u => match u with
    | (f, a1, a2, a3, a4, a5, a6, a7, a8, a9, a10, a11, a12) => ph_if (decide (e ≤ x)) (some u) (ph_ck (ph_in x 120) (ph_ck (ph_n3 (a6 x.toNatClampNeg)) (ph_ck (ph_n3 (a8 x.toNatClampNeg)) (ph_sweep e n (x + 1) (f, a1, a2, a3, a4, a5, a6, a7, a8, a9, upd a10 x.toNatClampNeg (-1), a11, a12)))))
def ph_moved (u : St2) (c p : Int32) : Option (Int32 × St2) := match u with
  | (f, a1, a2, a3, a4, a5, a6, a7, a8, a9, a10, a11, a12) => ph_ck (ph_in c 120) (ph_if (decide (0 ≤ a10 c.toNatClampNeg)) (some (a10 c.toNatClampNeg, u)) (ph_ck (ph_in p 3) (ph_ck (ph_in (ph_to a4 a5 p) 120) (some ((upd a10 c.toNatClampNeg (ph_to a4 a5 p)) c.toNatClampNeg, (f, a1, a2, a3, a4, upd a5 p.toNatClampNeg (a5 p.toNatClampNeg + 1), upd a6 (ph_to a4 a5 p).toNatClampNeg (a6 c.toNatClampNeg), upd a7 (ph_to a4 a5 p).toNatClampNeg (a7 c.toNatClampNeg), upd a8 (ph_to a4 a5 p).toNatClampNeg (a8 c.toNatClampNeg), upd a9 (ph_to a4 a5 p).toNatClampNeg (a9 c.toNatClampNeg), upd a10 c.toNatClampNeg (ph_to a4 a5 p), a11, a12))))))
def ph_mvp (u : St2) (q p : Int32) : Option St2 := match u with
  | (f, a1, a2, a3, a4, a5, a6, a7, a8, a9, a10, a11, a12) => ph_ck (ph_in q 21) (ph_if (decide (a1 q.toNatClampNeg = 2)) ((ph_moved u (a2 q.toNatClampNeg) p).bind fun ru => match ru with | (r, (g, b1, b2, b3, b4, b5, b6, b7, b8, b9, b10, b11, b12)) => ph_ck (ph_in r 120) (some (g, b1, upd b2 q.toNatClampNeg r, b3, b4, b5, b6, b7, b8, b9, b10, b11, b12))) (some u))
def ph_l48 (p : Int32) : Nat → Int32 → St2 → Option St2
  | 0 => fun _ _ => none
  | n + 1 => fun x u => ph_if (decide (4 ≤ x)) (some u) ((ph_mvp u ((4 * p) + x) p).bind fun u1 => ph_l48 p n (x + 1) u1)
def ph_l74 (p : Int32) : Nat → Int32 → St2 → Option St2
  | 0 => fun _ _ => none
  | n + 1 => fun x u => ph_if (decide (3 ≤ x)) (some u) ((ph_mvp u ((12 + (3 * p)) + x) p).bind fun u1 => ph_l74 p n (x + 1) u1)
def ph_scH (u : St2) (x p : Int32) : Option St2 := match u with
  | (f, a1, a2, a3, a4, a5, a6, a7, a8, a9, a10, a11, a12) => ph_if (decide (a6 x.toNatClampNeg = 2)) ((ph_moved u (a7 x.toNatClampNeg) p).bind fun ru => match ru with | (r, (g, b1, b2, b3, b4, b5, b6, b7, b8, b9, b10, b11, b12)) => ph_ck (ph_in r 120) (some (g, b1, b2, b3, b4, b5, b6, upd b7 x.toNatClampNeg r, b8, b9, b10, b11, b12))) (some u)
def ph_scT (u : St2) (x p : Int32) : Option St2 := match u with
  | (f, a1, a2, a3, a4, a5, a6, a7, a8, a9, a10, a11, a12) => ph_if (decide (a8 x.toNatClampNeg = 2)) ((ph_moved u (a9 x.toNatClampNeg) p).bind fun ru => match ru with | (r, (g, b1, b2, b3, b4, b5, b6, b7, b8, b9, b10, b11, b12)) => ph_ck (ph_in r 120) (some (g, b1, b2, b3, b4, b5, b6, b7, b8, upd b9 x.toNatClampNeg r, b10, b11, b12))) (some u)
def ph_l120 (p b : Int32) : Nat → Int32 → St2 → Option St2
  | 0 => fun _ _ => none
  | n + 1 => fun x u => match u with
    | (f, a1, a2, a3, a4, a5, a6, a7, a8, a9, a10, a11, a12) => ph_ck (ph_in p 3) (ph_if (decide ((b + (a5 p.toNatClampNeg)) ≤ x)) (some u) (ph_if (decide ((b + 20) ≤ x)) (some u) (ph_ck (ph_in x 120) ((ph_scH u x p).bind fun u1 => (ph_scT u1 x p).bind fun u2 => ph_l120 p b n (x + 1) u2))))
def ph_gc (u : St2) (p : Int32) : Option St2 := match u with
  | (f, a1, a2, a3, a4, a5, a6, a7, a8, a9, a10, a11, a12) => ph_ck (ph_in p 3) ((ph_l48 p 5 0 (f, a1, a2, a3, upd a4 p.toNatClampNeg (1 - (a4 p.toNatClampNeg)), upd a5 p.toNatClampNeg 0, a6, a7, a8, a9, a10, a11, a12)).bind fun u1 => (ph_l74 p 4 0 u1).bind fun u2 => match u2 with
    | (g, b1, b2, b3, b4, b5, b6, b7, b8, b9, b10, b11, b12) => (ph_l120 p (ph_bs b4 p) 21 (ph_bs b4 p) (g, b1, b2, b3, b4, b5, b6, b7, b8, b9, b10, b11, b12)).bind fun u3 => ph_sweep (ph_bs a4 p + a5 p.toNatClampNeg) 21 (ph_bs a4 p) u3)
def ph_collect (u : St2) (p : Int32) : Option St2 := ph_ck (ph_fits p 0) (ph_ck (ph_in p 3) (ph_gc u p))
def ph_used (u : St2) (p : Int32) : Int32 := match u with
  | (f, a1, a2, a3, a4, a5, a6, a7, a8, a9, a10, a11, a12) => a5 p.toNatClampNeg
def ph_room (u : St2) (p n : Int32) : Bool := ph_in p 3 && decide (ph_used u p ≤ 20 - n) && !decide (20 - n < ph_used u p)
def ph_fill (u : St2) (c hk hv tk tv : Int32) : Option St2 := match u with
  | (f, a1, a2, a3, a4, a5, a6, a7, a8, a9, a10, a11, a12) => ph_ck (ph_n3 hk) (ph_ck (ph_n3 tk) (ph_ck (ph_in c 120) (some (f, a1, a2, a3, a4, a5, upd a6 c.toNatClampNeg hk, upd a7 c.toNatClampNeg hv, upd a8 c.toNatClampNeg tk, upd a9 c.toNatClampNeg tv, a10, a11, a12))))
def ph_pair (u : St2) (p d h w : Int32) : Option St2 := match u with
  | (f, a1, a2, a3, a4, a5, a6, a7, a8, a9, a10, a11, a12) => ph_ck (ph_fits p d) (ph_ck (ph_fits p h) (ph_ck (ph_fits p w) (ph_ck (ph_room u p 1) (ph_ck (ph_in p 3) (ph_ck (ph_in ((4 * p) + h) 21) (ph_ck (ph_in ((4 * p) + w) 21) (ph_ck (ph_in (ph_to a4 a5 p) 120)
    ((ph_fill (f, a1, a2, a3, a4, upd a5 p.toNatClampNeg (a5 p.toNatClampNeg + 1), a6, a7, a8, a9, a10, a11, a12) (ph_to a4 a5 p) (a1 ((4 * p) + h).toNatClampNeg) (a2 ((4 * p) + h).toNatClampNeg) (a1 ((4 * p) + w).toNatClampNeg) (a2 ((4 * p) + w).toNatClampNeg)).bind fun u1 => ph_assign u1 ((4 * p) + d) 2 (ph_to a4 a5 p)))))))))
def ph_enl (u : St2) (k v : Int32) : Option St2 := match u with
  | (f, a1, a2, a3, a4, a5, a6, a7, a8, a9, a10, a11, a12) => ph_if (decide (k = 2)) (ph_ck (ph_in v 120) (ph_if (decide (0 ≤ a10 v.toNatClampNeg)) (some u) (ph_ck (ph_in f 20) (some (f + 1, a1, a2, a3, a4, a5, a6, a7, a8, a9, upd a10 v.toNatClampNeg v, a11, upd a12 f.toNatClampNeg v))))) (some u)
def ph_ff : Nat → Int32 → St2 → Option St2
  | 0 => fun _ _ => none
  | n + 1 => fun x u => match u with
    | (f, a1, a2, a3, a4, a5, a6, a7, a8, a9, a10, a11, a12) => ph_if (decide (f ≤ x)) (some u) (ph_ck (ph_in x 20) (ph_ck (ph_in (a12 x.toNatClampNeg) 120) (ph_ff n (x + 1) (f, a1, a2, a3, a4, a5, a6, a7, a8, a9, upd a10 (a12 x.toNatClampNeg).toNatClampNeg (-1), a11, a12))))
def ph_l23 : Nat → Int32 → St2 → Option St2
  | 0 => fun _ _ => none
  | n + 1 => fun x u => match u with
    | (f, a1, a2, a3, a4, a5, a6, a7, a8, a9, a10, a11, a12) => ph_if (decide (f ≤ x)) (some u) (ph_if (decide (20 ≤ x)) (some u) (ph_ck (ph_in x 20) (ph_ck (ph_in (a12 x.toNatClampNeg) 120) ((ph_enl u (a6 (a12 x.toNatClampNeg).toNatClampNeg) (a7 (a12 x.toNatClampNeg).toNatClampNeg)).bind fun u1 => match u1 with
      | (g, b1, b2, b3, b4, b5, b6, b7, b8, b9, b10, b11, b12) => (ph_enl (g, b1, b2, b3, b4, b5, b6, b7, b8, b9, b10, b11, b12) (b8 (a12 x.toNatClampNeg).toNatClampNeg) (b9 (a12 x.toNatClampNeg).toNatClampNeg)).bind fun u2 => ph_l23 n (x + 1) u2))))
def ph_lp (u : St2) (q : Int32) : Option St2 := match u with
  | (f, a1, a2, a3, a4, a5, a6, a7, a8, a9, a10, a11, a12) => ph_ck (ph_in q 21) ((ph_enl (0, a1, a2, a3, a4, a5, a6, a7, a8, a9, a10, a11, a12) (a1 q.toNatClampNeg) (a2 q.toNatClampNeg)).bind fun u1 => (ph_l23 21 0 u1).bind fun u2 => ph_ff 21 0 u2)
def ph_cl2 (p : Int32) : Nat → Int32 → St2 → Option St2
  | 0 => fun _ _ => none
  | n + 1 => fun x u => match u with
    | (f, a1, a2, a3, a4, a5, a6, a7, a8, a9, a10, a11, a12) => ph_if (decide (f ≤ x)) (some u) (ph_ck (ph_in x 20) (ph_ck (ph_in p 3) (ph_ck (ph_in (a12 x.toNatClampNeg) 120) (ph_cl2 p n (x + 1) (f, a1, a2, a3, a4, upd a5 p.toNatClampNeg (a5 p.toNatClampNeg + 1), a6, a7, a8, a9, upd a10 (a12 x.toNatClampNeg).toNatClampNeg (ph_to a4 a5 p), a11, a12)))))
def ph_hv (k v : Int32) (a10 : Nat → Int32) : Option Int32 := ph_if (decide (k = 2)) (ph_ck (ph_in v 120) (ph_ck (ph_in (a10 v.toNatClampNeg) 120) (some (a10 v.toNatClampNeg)))) (some v)
def ph_cl34 : Nat → Int32 → St2 → Option St2
  | 0 => fun _ _ => none
  | n + 1 => fun x u => match u with
    | (f, a1, a2, a3, a4, a5, a6, a7, a8, a9, a10, a11, a12) => ph_if (decide (f ≤ x)) (some u) (ph_ck (ph_in x 20) (ph_ck (ph_in (a12 x.toNatClampNeg) 120) ((ph_hv (a6 (a12 x.toNatClampNeg).toNatClampNeg) (a7 (a12 x.toNatClampNeg).toNatClampNeg) a10).bind fun hv => (ph_hv (a8 (a12 x.toNatClampNeg).toNatClampNeg) (a9 (a12 x.toNatClampNeg).toNatClampNeg) a10).bind fun tv => (ph_fill u (a10 (a12 x.toNatClampNeg).toNatClampNeg) (a6 (a12 x.toNatClampNeg).toNatClampNeg) hv (a8 (a12 x.toNatClampNeg).toNatClampNeg) tv).bind fun u1 => ph_cl34 n (x + 1) u1)))
def ph_snd (u : St2) (q s : Int32) : Option St2 := match u with
  | (g, b1, b2, b3, b4, b5, b6, b7, b8, b9, b10, b11, b12) => ph_ck (ph_in q 3) (ph_ck (ph_in s 21) ((ph_hv (b1 s.toNatClampNeg) (b2 s.toNatClampNeg) b10).bind fun v => (ph_assign u ((12 + (3 * q)) + (b3 q.toNatClampNeg)) (b1 s.toNatClampNeg) v).bind fun u5 => match u5 with
    | (k, d1, d2, d3, d4, d5, d6, d7, d8, d9, d10, d11, d12) => ph_ff 21 0 (k, d1, d2, upd d3 q.toNatClampNeg (d3 q.toNatClampNeg + 1), d4, d5, d6, d7, d8, d9, d10, d11, d12)))
def ph_lst (u : St2) : Int32 := match u with
  | (f, a1, a2, a3, a4, a5, a6, a7, a8, a9, a10, a11, a12) => f
def ph_wait (u : St2) (p : Int32) : Int32 := match u with
  | (f, a1, a2, a3, a4, a5, a6, a7, a8, a9, a10, a11, a12) => a3 p.toNatClampNeg
def ph_send (u : St2) (p s q : Int32) : Option St2 := ph_ck (ph_fits p s) (ph_ck (ph_fits q 0) (ph_ck (ph_in q 3) (ph_ck (decide (ph_wait u q < 3)) ((ph_lp u ((4 * p) + s)).bind fun u1 => ph_ck (ph_room u1 q (ph_lst u1)) ((ph_lp u1 ((4 * p) + s)).bind fun u2 => (ph_cl2 q 21 0 u2).bind fun u3 => (ph_cl34 21 0 u3).bind fun u4 => ph_snd u4 q ((4 * p) + s))))))
def ph_l53 (q x3 : Int32) : Nat → Int32 → St2 → Option St2
  | 0 => fun _ _ => none
  | n + 1 => fun x u => match u with
    | (f, a1, a2, a3, a4, a5, a6, a7, a8, a9, a10, a11, a12) => ph_if (decide (2 ≤ x)) ((ph_assign u (x3 + 2) 0 0).bind fun u1 => match u1 with
        | (g, b1, b2, b3, b4, b5, b6, b7, b8, b9, b10, b11, b12) => ph_ck (ph_in q 3) (some (g, b1, b2, upd b3 q.toNatClampNeg (b3 q.toNatClampNeg - 1), b4, b5, b6, b7, b8, b9, b10, b11, b12)))
      (ph_ck (ph_in ((x3 + x) + 1) 21) ((ph_assign u (x3 + x) (a1 ((x3 + x) + 1).toNatClampNeg) (a2 ((x3 + x) + 1).toNatClampNeg)).bind fun u1 => ph_l53 q x3 n (x + 1) u1))
def ph_recv (u : St2) (q d : Int32) : Option St2 := match u with
  | (f, a1, a2, a3, a4, a5, a6, a7, a8, a9, a10, a11, a12) => ph_ck (ph_fits q d) (ph_ck (ph_in q 3) (ph_ck (!decide (a3 q.toNatClampNeg = 0)) (ph_ck (ph_in (12 + (3 * q)) 21) ((ph_assign u ((4 * q) + d) (a1 (12 + (3 * q)).toNatClampNeg) (a2 (12 + (3 * q)).toNatClampNeg)).bind fun u1 => ph_l53 q (12 + (3 * q)) 3 0 u1))))
def ph_kind (u : St2) (p r : Int32) : Int32 := match u with
  | (f, a1, a2, a3, a4, a5, a6, a7, a8, a9, a10, a11, a12) => a1 ((4 * p) + r).toNatClampNeg
def ph_val (u : St2) (p r : Int32) : Int32 := match u with
  | (f, a1, a2, a3, a4, a5, a6, a7, a8, a9, a10, a11, a12) => a2 ((4 * p) + r).toNatClampNeg
def ph_ok (p r : Int32) : Bool := ph_fits p r && ph_in ((4 * p) + r) 21
/-- b = 0: the tail, else the head -/
def ph_part (u : St2) (p d s b : Int32) : Option St2 := match u with
  | (f, a1, a2, a3, a4, a5, a6, a7, a8, a9, a10, a11, a12) => ph_ck (ph_fits p d) (ph_ck (ph_fits p s) (ph_ck (ph_in ((4 * p) + s) 21) (ph_ck (decide (a1 ((4 * p) + s).toNatClampNeg = 2)) (ph_ck (ph_in (a2 ((4 * p) + s).toNatClampNeg) 120)
    (ph_if (decide (b = 0)) (ph_assign u ((4 * p) + d) (a8 (a2 ((4 * p) + s).toNatClampNeg).toNatClampNeg) (a9 (a2 ((4 * p) + s).toNatClampNeg).toNatClampNeg)) (ph_assign u ((4 * p) + d) (a6 (a2 ((4 * p) + s).toNatClampNeg).toNatClampNeg) (a7 (a2 ((4 * p) + s).toNatClampNeg).toNatClampNeg)))))))
def ph_l12 (q : Int32) : Nat → Int32 → St2 → Option St2
  | 0 => fun _ _ => none
  | n + 1 => fun x u => ph_if (decide (4 ≤ x)) (some u) ((ph_assign u ((4 * q) + x) 0 0).bind fun u1 => ph_l12 q n (x + 1) u1)
def ph_l36 (q : Int32) : Nat → Int32 → St2 → Option St2
  | 0 => fun _ _ => none
  | n + 1 => fun x u => ph_if (decide (3 ≤ x)) (some u) ((ph_assign u ((12 + (3 * q)) + x) 0 0).bind fun u1 => ph_l36 q n (x + 1) u1)
def ph_rest (u : St2) (q : Int32) : Option St2 := ph_ck (ph_fits q 0) ((ph_l12 q 5 0 u).bind fun u1 => (ph_l36 q 4 0 u1).bind fun u2 => match u2 with
  | (g, b1, b2, b3, b4, b5, b6, b7, b8, b9, b10, b11, b12) => ph_ck (ph_in q 3) (ph_ck (decide ((ph_bs b4 q + b5 q.toNatClampNeg) ≤ ph_bs b4 q)) (some (g, b1, b2, upd b3 q.toNatClampNeg 0, b4, upd b5 q.toNatClampNeg 0, b6, b7, b8, b9, b10, b11, b12))))
def ph_noblob (u : St2) : Bool := match u with
  | (f, a1, a2, a3, a4, a5, a6, a7, a8, a9, a10, a11, a12) => decide (a11 0 ≤ 0) && decide (a11 1 ≤ 0) && decide (a11 2 ≤ 0) && decide (a11 3 ≤ 0) && decide (a11 4 ≤ 0) && decide (a11 5 ≤ 0)
def ph_s0 : St2 := (0, (fun _ => 0), (fun _ => 0), (fun _ => 0), (fun _ => 0), (fun _ => 0), (fun _ => 0), (fun _ => 0), (fun _ => 0), (fun _ => 0), (fun j => if j < 120 then -1 else 0), (fun _ => 0), (fun _ => 0))
/-- the law up to the second pair -/
def ph_runA (p : Int32) : Option St2 := (ph_number ph_s0 p 0 1000).bind fun u => (ph_number u p 1 1001).bind fun u => (ph_pair u p 2 0 1).bind fun u => (ph_pair u p 2 2 2).bind fun u =>
  ph_ck (ph_fits p 0) (ph_ck (ph_in p 3) (ph_ck (decide (ph_used u p = 2)) (some u)))
/-- from the sending to the sender's collecting -/
def ph_runB (u : St2) (p q : Int32) : Option St2 := (ph_send u p 2 q).bind fun u =>
  ph_ck (ph_fits p 0) (ph_ck (ph_in p 3) (ph_ck (ph_fits q 0) (ph_ck (ph_in q 3)
  (ph_ck (decide (ph_used u q = (if q = p then 4 else 2))) (ph_ck (decide (ph_used u p = (if q = p then 4 else 2))) ((ph_nil u p 2).bind fun u => (ph_collect u p).bind fun u =>
  ph_ck (decide (ph_used u p = (if q = p then 2 else 0))) (some u)))))))
/-- the two receives: one of them is taken -/
def ph_runC (u : St2) (q r : Int32) : Option St2 := (ph_recv u q r).bind fun u => ph_ck (ph_fits q 3) (ph_ck (ph_in q 3) (ph_ck (decide (ph_wait u q = 0)) (some u)))
/-- the parts of the term -/
def ph_runD (z : St2) (q r : Int32) : Option St2 := ph_ck (ph_ok q r) (ph_ck (ph_ok q ((r + 1) &&& 3)) (ph_ck (ph_ok q ((r + 2) &&& 3)) (ph_ck (decide (ph_kind z q r = 2))
  ((ph_part z q ((r + 1) &&& 3) r 1).bind fun u1 => (ph_part u1 q ((r + 2) &&& 3) r 0).bind fun u =>
  ph_ck (decide (ph_kind u q ((r + 1) &&& 3) = ph_kind u q ((r + 2) &&& 3))) (ph_ck (decide (ph_val u q ((r + 1) &&& 3) = ph_val u q ((r + 2) &&& 3)))
  (ph_ck (decide (ph_kind u q r = ph_kind u q ((r + 1) &&& 3))) (ph_ck (ph_in (ph_val u q r) 120) (ph_ck (ph_in (ph_val u q ((r + 1) &&& 3)) 120) (ph_ck (!decide (ph_val u q r = ph_val u q ((r + 1) &&& 3)))
  (ph_ck (decide (ph_kind u q r = 2)) ((ph_part u q r ((r + 1) &&& 3) 1).bind fun u3 => (ph_part u3 q ((r + 2) &&& 3) ((r + 1) &&& 3) 0).bind fun v =>
  ph_ck (decide (ph_kind v q r = 1)) (ph_ck (decide (ph_kind v q ((r + 2) &&& 3) = 1)) (ph_ck (decide (ph_val v q r = 1000)) (ph_ck (decide (ph_val v q ((r + 2) &&& 3) = 1001)) (some v)))))))))))))))
/-- the end -/
def ph_runE (u : St2) (q r : Int32) : Option St2 := ph_ck (ph_ok q r) (ph_ck (ph_fits q 0) (ph_ck (ph_in q 3) (ph_ck (decide (ph_used u q = 2)) ((ph_collect u q).bind fun u => ph_ck (decide (ph_used u q = 1)) ((ph_nil u q ((r + 1) &&& 3)).bind fun u => (ph_collect u q).bind fun u =>
  ph_ck (decide (ph_used u q = 0)) ((ph_rest u q).bind fun u => ph_ck (decide (ph_kind u q r = 0)) (ph_ck (ph_noblob u) (some u))))))))
def ph_runF (p q r : Int32) : Option St2 := (ph_runA p).bind fun u => (ph_runB u p q).bind fun u => (ph_runC u q r).bind fun u => (ph_runD u q r).bind fun u => ph_runE u q r
def ph_some {α : Type} (x : Option α) : Bool := match x with
  | some _ => true
  | none => false
end
section
theorem ph_eval : ∀ p ∈ ([0, 1, 2] : List Int32), ∀ q ∈ ([0, 1, 2] : List Int32), ∀ r ∈ ([0, 1, 2, 3] : List Int32), ph_some (ph_runF p q r) = true := by decide +kernel
theorem ph_some_v {α : Type} {x : Option α} (h : ph_some x = true) : ∃ y, x = some y := by
  cases x with
  | none => exact absurd (show false = true from h) (by decide)
  | some y => exact ⟨y, rfl⟩
end
section
theorem ph_ck_mp {α : Type} {b : Bool} {e : Option α} {x : α} (h : ph_ck b e = some x) : b = true ∧ e = some x := by
  cases b with
  | true => exact ⟨rfl, h⟩
  | false => exact absurd h.symm (Option.some_ne_none x)
theorem ph_if_mp {α : Type} {b : Bool} {e e' : Option α} {x : α} (h : ph_if b e e' = some x) : (b = true ∧ e = some x) ∨ (b = false ∧ e' = some x) := by
  cases b with
  | true => exact Or.inl ⟨rfl, h⟩
  | false => exact Or.inr ⟨rfl, h⟩
theorem ph_bd {α β : Type} {e : Option α} {g : α → Option β} {y : β} (h : e.bind g = some y) : ∃ x, e = some x ∧ g x = some y := Option.bind_eq_some_iff.mp h
theorem ph_in_v {x : Int32} {n : Nat} (h : ph_in x n = true) : vp_in x n := by
  have z : ¬ (x < 0 ∨ n ≤ x.toNatClampNeg) := of_decide_eq_true h
  exact z
theorem ph_nd {c : Prop} {d : Decidable c} (h : (!@decide c d) = true) : ¬ c := by
  intro z
  rw [decide_eq_true z] at h
  exact absurd h (by decide)
theorem ph_n3_v {k : Int32} (h : ph_n3 k = true) : ¬ k = 3 := ph_nd h
theorem ph_dl_in {o t c : Int32} {n : Nat} (h : vp_in c n) (hn : n ≤ 120) : ph_dl o t c = c := by
  have h2 := (vp_in_iff.mp h).2
  have e0 : (1000 : Int32).toInt = 1000 := by decide
  have e1 : (1001 : Int32).toInt = 1001 := by decide
  have n0 : ¬ c = 1000 := by
    intro z
    rw [z, e0] at h2
    omega
  have n1 : ¬ c = 1001 := by
    intro z
    rw [z, e1] at h2
    omega
  unfold ph_dl
  rw [if_neg n0, if_neg n1]
theorem ph_dl_inb {o t c : Int32} (h : ph_in c 120 = true) : ph_dl o t c = c := ph_dl_in (ph_in_v h) (Nat.le_refl 120)
theorem ph_dl_0 {o t : Int32} : (0 : Int32) = ph_dl o t 0 := (ph_dl_inb (by decide)).symm
theorem ph_dl_o {o t : Int32} : ph_dl o t 1000 = o := if_pos rfl
theorem ph_dl_t {o t : Int32} : ph_dl o t 1001 = t := by
  unfold ph_dl
  rw [if_neg (by decide), if_pos rfl]
theorem ph_dd_upd {o t : Int32} {a : Nat → Int32} {i : Nat} {v : Int32} : ph_dd o t (upd a i v) = upd (ph_dd o t a) i (ph_dl o t v) := by
  funext j
  unfold ph_dd upd
  by_cases e : j = i
  · rw [if_pos e, if_pos e]
  · rw [if_neg e, if_neg e]
theorem ph_10 : ¬ (1 : Int32) = 0 := by decide
theorem ph_s_fits {post : Int32 → Prop} {p r : Int32} (h : ph_fits p r = true) (hp : post 1) : wpX_fits post () p r := by
  have z : ¬ p < 0 ∧ ¬ 2 < p ∧ ¬ r < 0 ∧ ¬ 3 < r := of_decide_eq_true h
  exact br_f z.1 (br_f z.2.1 (br_f z.2.2.1 (br_f z.2.2.2 hp)))
theorem ph_s_hold {post : St2 → Prop} {f : Int32} {a1 a2 a3 a4 a5 a6 a7 a8 a9 a10 a11 a12 : Nat → Int32} {k v : Int32} (hk : ¬ k = 3) (hp : post (f, a1, a2, a3, a4, a5, a6, a7, a8, a9, a10, a11, a12)) : wpX_hold post (f, a1, a2, a3, a4, a5, a6, a7, a8, a9, a10, a11, a12) k v := br_f hk hp
theorem ph_s_letGo {post : St2 → Prop} {f : Int32} {a1 a2 a3 a4 a5 a6 a7 a8 a9 a10 a11 a12 : Nat → Int32} {k v : Int32} (hk : ¬ k = 3) (hp : post (f, a1, a2, a3, a4, a5, a6, a7, a8, a9, a10, a11, a12)) : wpX_letGo post (f, a1, a2, a3, a4, a5, a6, a7, a8, a9, a10, a11, a12) k v := br_f hk hp
theorem ph_s_assign {o t : Int32} {post : St2 → Prop} {f : Int32} {a1 a2 a3 a4 a5 a6 a7 a8 a9 a10 a11 a12 : Nat → Int32} {u' : St2} {p k v w : Int32} (hv : w = ph_dl o t v) (h : ph_assign (f, a1, a2, a3, a4, a5, a6, a7, a8, a9, a10, a11, a12) p k v = some u') (hp : post (ph_dc o t u')) :
    wpX_assign post (f, a1, ph_dd o t a2, a3, a4, a5, a6, ph_dd o t a7, a8, ph_dd o t a9, a10, a11, a12) p k w := by
  obtain ⟨c1, h⟩ := ph_ck_mp h
  obtain ⟨c2, h⟩ := ph_ck_mp h
  obtain ⟨c3, h⟩ := ph_ck_mp h
  cases h
  have hp' : post (f, upd a1 p.toNatClampNeg k, upd (ph_dd o t a2) p.toNatClampNeg w, a3, a4, a5, a6, ph_dd o t a7, a8, ph_dd o t a9, a10, a11, a12) := by
    rw [hv, ← ph_dd_upd]
    exact hp
  have i := ph_in_v c1
  unfold wpX_assign
  exact ph_s_hold (ph_n3_v c2) (And.intro i (And.intro i (ph_s_letGo (ph_n3_v c3) (And.intro i (nm_e (And.intro i (nm_e hp')))))))
theorem ph_s_number {o t : Int32} {post : Int32 → St2 → Prop} {f : Int32} {a1 a2 a3 a4 a5 a6 a7 a8 a9 a10 a11 a12 : Nat → Int32} {u' : St2} {p r v w : Int32} (hv : w = ph_dl o t v) (h : ph_number (f, a1, a2, a3, a4, a5, a6, a7, a8, a9, a10, a11, a12) p r v = some u') (hp : post 0 (ph_dc o t u')) :
    wpX_number post (f, a1, ph_dd o t a2, a3, a4, a5, a6, ph_dd o t a7, a8, ph_dd o t a9, a10, a11, a12) p r w := by
  obtain ⟨c1, h⟩ := ph_ck_mp h
  obtain ⟨g, b1, b2, b3, b4, b5, b6, b7, b8, b9, b10, b11, b12⟩ := u'
  unfold wpX_number
  exact ph_s_fits c1 (br_f ph_10 (ph_s_assign hv h hp))
theorem ph_s_nil {o t : Int32} {post : Int32 → St2 → Prop} {f : Int32} {a1 a2 a3 a4 a5 a6 a7 a8 a9 a10 a11 a12 : Nat → Int32} {u' : St2} {p r : Int32} (h : ph_nil (f, a1, a2, a3, a4, a5, a6, a7, a8, a9, a10, a11, a12) p r = some u') (hp : post 0 (ph_dc o t u')) :
    wpX_nil post (f, a1, ph_dd o t a2, a3, a4, a5, a6, ph_dd o t a7, a8, ph_dd o t a9, a10, a11, a12) p r := by
  obtain ⟨c1, h⟩ := ph_ck_mp h
  obtain ⟨g, b1, b2, b3, b4, b5, b6, b7, b8, b9, b10, b11, b12⟩ := u'
  unfold wpX_nil
  exact ph_s_fits c1 (br_f ph_10 (ph_s_assign ph_dl_0 h hp))
end
section
theorem ph_s_sweep {o t : Int32} {post : St2 → Prop} {e : Int32} {u' : St2} (hp : post (ph_dc o t u')) : ∀ (n : Nat) (x : Int32) (f : Int32) (a1 a2 a3 a4 a5 a6 a7 a8 a9 a10 a11 a12 : Nat → Int32), ph_sweep e n x (f, a1, a2, a3, a4, a5, a6, a7, a8, a9, a10, a11, a12) = some u' → wX_sweepOld_2 post e n x f a1 (ph_dd o t a2) a3 a4 a5 a6 (ph_dd o t a7) a8 (ph_dd o t a9) a10 a11 a12 := by
  intro n
  induction n with
  | zero => exact fun x f a1 a2 a3 a4 a5 a6 a7 a8 a9 a10 a11 a12 h => absurd h.symm (Option.some_ne_none u')
  | succ n ih =>
    intro x f a1 a2 a3 a4 a5 a6 a7 a8 a9 a10 a11 a12 h
    rcases ph_if_mp h with ⟨c, h⟩ | ⟨c, h⟩
    · cases h
      exact br_t (of_decide_eq_true c) hp
    · obtain ⟨c1, h⟩ := ph_ck_mp h
      obtain ⟨c2, h⟩ := ph_ck_mp h
      obtain ⟨c3, h⟩ := ph_ck_mp h
      have i := ph_in_v c1
      have I := ih _ _ _ _ _ _ _ _ _ _ _ _ _ _ h
      exact br_f (of_decide_eq_false c) (And.intro i (br_c (fun _ => And.intro i (nm_e (nm_e I))) (fun _ => And.intro i (And.intro i (ph_s_letGo (ph_n3_v c2) (And.intro i (And.intro i (ph_s_letGo (ph_n3_v c3) (And.intro i (nm_e (nm_e I)))))))))))
theorem ph_s_moved {o t : Int32} {post : Int32 → St2 → Prop} {f : Int32} {a1 a2 a3 a4 a5 a6 a7 a8 a9 a10 a11 a12 : Nat → Int32} {u' : St2} {c c' p r : Int32} (hc : c' = ph_dl o t c) (h : ph_moved (f, a1, a2, a3, a4, a5, a6, a7, a8, a9, a10, a11, a12) c p = some (r, u')) (hp : post r (ph_dc o t u')) : wpX_moved post (f, a1, ph_dd o t a2, a3, a4, a5, a6, ph_dd o t a7, a8, ph_dd o t a9, a10, a11, a12) c' p := by
  obtain ⟨c1, h⟩ := ph_ck_mp h
  have i := ph_in_v c1
  have ec : c' = c := hc.trans (ph_dl_inb c1)
  rw [ec]
  rcases ph_if_mp h with ⟨d, h⟩ | ⟨d, h⟩
  · cases h
    exact And.intro i (br_t (of_decide_eq_true d) (And.intro i hp))
  · obtain ⟨c2, h⟩ := ph_ck_mp h
    obtain ⟨c3, h⟩ := ph_ck_mp h
    have j := ph_in_v c2
    have k := ph_in_v c3
    cases h
    have hp' : post ((upd a10 c.toNatClampNeg (ph_to a4 a5 p)) c.toNatClampNeg) (f, a1, ph_dd o t a2, a3, a4, upd a5 p.toNatClampNeg (a5 p.toNatClampNeg + 1), upd a6 (ph_to a4 a5 p).toNatClampNeg (a6 c.toNatClampNeg), upd (ph_dd o t a7) (ph_to a4 a5 p).toNatClampNeg (ph_dd o t a7 c.toNatClampNeg), upd a8 (ph_to a4 a5 p).toNatClampNeg (a8 c.toNatClampNeg), upd (ph_dd o t a9) (ph_to a4 a5 p).toNatClampNeg (ph_dd o t a9 c.toNatClampNeg), upd a10 c.toNatClampNeg (ph_to a4 a5 p), a11, a12) := by
      have z7 : ph_dd o t (upd a7 (ph_to a4 a5 p).toNatClampNeg (a7 c.toNatClampNeg)) = upd (ph_dd o t a7) (ph_to a4 a5 p).toNatClampNeg (ph_dd o t a7 c.toNatClampNeg) := ph_dd_upd
      have z9 : ph_dd o t (upd a9 (ph_to a4 a5 p).toNatClampNeg (a9 c.toNatClampNeg)) = upd (ph_dd o t a9) (ph_to a4 a5 p).toNatClampNeg (ph_dd o t a9 c.toNatClampNeg) := ph_dd_upd
      rw [← z7, ← z9]
      exact hp
    exact And.intro i (br_f (of_decide_eq_false d) (And.intro j (And.intro j (nm_e (And.intro j (And.intro j (nm_e (And.intro i (And.intro k (nm_e (And.intro i (And.intro k (nm_e (And.intro i (And.intro k (nm_e (And.intro i (And.intro k (nm_e (And.intro i (nm_e (And.intro i hp'))))))))))))))))))))))

theorem ph_s_moved_2 {o t : Int32} {post : Int32 → St2 → Prop} {f : Int32} {a1 a2 a3 a4 a5 a6 a7 a8 a9 a10 a11 a12 : Nat → Int32} {u' : St2} {c c' p r : Int32} (hc : c' = ph_dl o t c) (h : ph_moved (f, a1, a2, a3, a4, a5, a6, a7, a8, a9, a10, a11, a12) c p = some (r, u')) (hp : post r (ph_dc o t u')) : wpX_moved_2 post (f, a1, ph_dd o t a2, a3, a4, a5, a6, ph_dd o t a7, a8, ph_dd o t a9, a10, a11, a12) c' p := by
  obtain ⟨c1, h⟩ := ph_ck_mp h
  have i := ph_in_v c1
  have ec : c' = c := hc.trans (ph_dl_inb c1)
  rw [ec]
  rcases ph_if_mp h with ⟨d, h⟩ | ⟨d, h⟩
  · cases h
    exact And.intro i (br_t (of_decide_eq_true d) (And.intro i hp))
  · obtain ⟨c2, h⟩ := ph_ck_mp h
    obtain ⟨c3, h⟩ := ph_ck_mp h
    have j := ph_in_v c2
    have k := ph_in_v c3
    cases h
    have hp' : post ((upd a10 c.toNatClampNeg (ph_to a4 a5 p)) c.toNatClampNeg) (f, a1, ph_dd o t a2, a3, a4, upd a5 p.toNatClampNeg (a5 p.toNatClampNeg + 1), upd a6 (ph_to a4 a5 p).toNatClampNeg (a6 c.toNatClampNeg), upd (ph_dd o t a7) (ph_to a4 a5 p).toNatClampNeg (ph_dd o t a7 c.toNatClampNeg), upd a8 (ph_to a4 a5 p).toNatClampNeg (a8 c.toNatClampNeg), upd (ph_dd o t a9) (ph_to a4 a5 p).toNatClampNeg (ph_dd o t a9 c.toNatClampNeg), upd a10 c.toNatClampNeg (ph_to a4 a5 p), a11, a12) := by
      have z7 : ph_dd o t (upd a7 (ph_to a4 a5 p).toNatClampNeg (a7 c.toNatClampNeg)) = upd (ph_dd o t a7) (ph_to a4 a5 p).toNatClampNeg (ph_dd o t a7 c.toNatClampNeg) := ph_dd_upd
      have z9 : ph_dd o t (upd a9 (ph_to a4 a5 p).toNatClampNeg (a9 c.toNatClampNeg)) = upd (ph_dd o t a9) (ph_to a4 a5 p).toNatClampNeg (ph_dd o t a9 c.toNatClampNeg) := ph_dd_upd
      rw [← z7, ← z9]
      exact hp
    exact And.intro i (br_f (of_decide_eq_false d) (And.intro j (And.intro j (nm_e (And.intro j (And.intro j (nm_e (And.intro i (And.intro k (nm_e (And.intro i (And.intro k (nm_e (And.intro i (And.intro k (nm_e (And.intro i (And.intro k (nm_e (And.intro i (nm_e (And.intro i hp'))))))))))))))))))))))

theorem ph_s_moved_3 {o t : Int32} {post : Int32 → St2 → Prop} {f : Int32} {a1 a2 a3 a4 a5 a6 a7 a8 a9 a10 a11 a12 : Nat → Int32} {u' : St2} {c c' p r : Int32} (hc : c' = ph_dl o t c) (h : ph_moved (f, a1, a2, a3, a4, a5, a6, a7, a8, a9, a10, a11, a12) c p = some (r, u')) (hp : post r (ph_dc o t u')) : wpX_moved_3 post (f, a1, ph_dd o t a2, a3, a4, a5, a6, ph_dd o t a7, a8, ph_dd o t a9, a10, a11, a12) c' p := by
  obtain ⟨c1, h⟩ := ph_ck_mp h
  have i := ph_in_v c1
  have ec : c' = c := hc.trans (ph_dl_inb c1)
  rw [ec]
  rcases ph_if_mp h with ⟨d, h⟩ | ⟨d, h⟩
  · cases h
    exact And.intro i (br_t (of_decide_eq_true d) (And.intro i hp))
  · obtain ⟨c2, h⟩ := ph_ck_mp h
    obtain ⟨c3, h⟩ := ph_ck_mp h
    have j := ph_in_v c2
    have k := ph_in_v c3
    cases h
    have hp' : post ((upd a10 c.toNatClampNeg (ph_to a4 a5 p)) c.toNatClampNeg) (f, a1, ph_dd o t a2, a3, a4, upd a5 p.toNatClampNeg (a5 p.toNatClampNeg + 1), upd a6 (ph_to a4 a5 p).toNatClampNeg (a6 c.toNatClampNeg), upd (ph_dd o t a7) (ph_to a4 a5 p).toNatClampNeg (ph_dd o t a7 c.toNatClampNeg), upd a8 (ph_to a4 a5 p).toNatClampNeg (a8 c.toNatClampNeg), upd (ph_dd o t a9) (ph_to a4 a5 p).toNatClampNeg (ph_dd o t a9 c.toNatClampNeg), upd a10 c.toNatClampNeg (ph_to a4 a5 p), a11, a12) := by
      have z7 : ph_dd o t (upd a7 (ph_to a4 a5 p).toNatClampNeg (a7 c.toNatClampNeg)) = upd (ph_dd o t a7) (ph_to a4 a5 p).toNatClampNeg (ph_dd o t a7 c.toNatClampNeg) := ph_dd_upd
      have z9 : ph_dd o t (upd a9 (ph_to a4 a5 p).toNatClampNeg (a9 c.toNatClampNeg)) = upd (ph_dd o t a9) (ph_to a4 a5 p).toNatClampNeg (ph_dd o t a9 c.toNatClampNeg) := ph_dd_upd
      rw [← z7, ← z9]
      exact hp
    exact And.intro i (br_f (of_decide_eq_false d) (And.intro j (And.intro j (nm_e (And.intro j (And.intro j (nm_e (And.intro i (And.intro k (nm_e (And.intro i (And.intro k (nm_e (And.intro i (And.intro k (nm_e (And.intro i (And.intro k (nm_e (And.intro i (nm_e (And.intro i hp'))))))))))))))))))))))

theorem ph_s_mvp {o t : Int32} {post : St2 → Prop} {f : Int32} {a1 a2 a3 a4 a5 a6 a7 a8 a9 a10 a11 a12 : Nat → Int32} {u' : St2} {q p : Int32} (h : ph_mvp (f, a1, a2, a3, a4, a5, a6, a7, a8, a9, a10, a11, a12) q p = some u') (hp : post (ph_dc o t u')) : wpX_movePlace post (f, a1, ph_dd o t a2, a3, a4, a5, a6, ph_dd o t a7, a8, ph_dd o t a9, a10, a11, a12) q p := by
  obtain ⟨c1, h⟩ := ph_ck_mp h
  have i := ph_in_v c1
  rcases ph_if_mp h with ⟨c, h⟩ | ⟨c, h⟩
  · obtain ⟨⟨r, g, b1, b2, b3, b4, b5, b6, b7, b8, b9, b10, b11, b12⟩, h1, h2⟩ := ph_bd h
    obtain ⟨c2, h2⟩ := ph_ck_mp h2
    cases h2
    have hp' : post (g, b1, upd (ph_dd o t b2) q.toNatClampNeg r, b3, b4, b5, b6, ph_dd o t b7, b8, ph_dd o t b9, b10, b11, b12) := by
      have z : ph_dd o t (upd b2 q.toNatClampNeg r) = upd (ph_dd o t b2) q.toNatClampNeg r := by rw [ph_dd_upd, ph_dl_inb c2]
      rw [← z]
      exact hp
    exact And.intro i (br_t (of_decide_eq_true c) (And.intro i (ph_s_moved_3 rfl h1 (And.intro i (nm_e hp')))))
  · cases h
    exact And.intro i (br_f (of_decide_eq_false c) hp)
theorem ph_s_l74 {o t : Int32} {post : St2 → Prop} {p x2 x3 : Int32} {g : Int32} {b1 b2 b3 b4 b5 b6 b7 b8 b9 b10 b11 b12 : Nat → Int32} (K : vp_in p 3 ∧ ∀ x4 : Int32, x4 = (40 * p) + (20 * (b4 p.toNatClampNeg)) → ∃ n : Nat, wX_collectHeap_120 post p x2 x3 x4 n x4 g b1 (ph_dd o t b2) b3 b4 b5 b6 (ph_dd o t b7) b8 (ph_dd o t b9) b10 b11 b12) :
    ∀ (n : Nat) (x : Int32) (f : Int32) (a1 a2 a3 a4 a5 a6 a7 a8 a9 a10 a11 a12 : Nat → Int32), ph_l74 p n x (f, a1, a2, a3, a4, a5, a6, a7, a8, a9, a10, a11, a12) = some (g, b1, b2, b3, b4, b5, b6, b7, b8, b9, b10, b11, b12) → wX_collectHeap_74 post p x2 x3 n x f a1 (ph_dd o t a2) a3 a4 a5 a6 (ph_dd o t a7) a8 (ph_dd o t a9) a10 a11 a12 := by
  intro n
  induction n with
  | zero => exact fun x f a1 a2 a3 a4 a5 a6 a7 a8 a9 a10 a11 a12 h => absurd h.symm (Option.some_ne_none _)
  | succ n ih =>
    intro x f a1 a2 a3 a4 a5 a6 a7 a8 a9 a10 a11 a12 h
    rcases ph_if_mp h with ⟨c, h⟩ | ⟨c, h⟩
    · cases h
      exact br_t (of_decide_eq_true c) K
    · obtain ⟨⟨k, d1, d2, d3, d4, d5, d6, d7, d8, d9, d10, d11, d12⟩, h1, h2⟩ := ph_bd h
      exact br_f (of_decide_eq_false c) (ph_s_mvp h1 (nm_e (ih _ _ _ _ _ _ _ _ _ _ _ _ _ _ h2)))
theorem ph_s_l48 {o t : Int32} {post : St2 → Prop} {p x2 x3 : Int32} {g : Int32} {b1 b2 b3 b4 b5 b6 b7 b8 b9 b10 b11 b12 : Nat → Int32} (K : ∃ n : Nat, wX_collectHeap_74 post p x2 x3 n 0 g b1 (ph_dd o t b2) b3 b4 b5 b6 (ph_dd o t b7) b8 (ph_dd o t b9) b10 b11 b12) :
    ∀ (n : Nat) (x : Int32) (f : Int32) (a1 a2 a3 a4 a5 a6 a7 a8 a9 a10 a11 a12 : Nat → Int32), ph_l48 p n x (f, a1, a2, a3, a4, a5, a6, a7, a8, a9, a10, a11, a12) = some (g, b1, b2, b3, b4, b5, b6, b7, b8, b9, b10, b11, b12) → wX_collectHeap_48 post p x2 x3 n x f a1 (ph_dd o t a2) a3 a4 a5 a6 (ph_dd o t a7) a8 (ph_dd o t a9) a10 a11 a12 := by
  intro n
  induction n with
  | zero => exact fun x f a1 a2 a3 a4 a5 a6 a7 a8 a9 a10 a11 a12 h => absurd h.symm (Option.some_ne_none _)
  | succ n ih =>
    intro x f a1 a2 a3 a4 a5 a6 a7 a8 a9 a10 a11 a12 h
    rcases ph_if_mp h with ⟨c, h⟩ | ⟨c, h⟩
    · cases h
      exact br_t (of_decide_eq_true c) K
    · obtain ⟨⟨k, d1, d2, d3, d4, d5, d6, d7, d8, d9, d10, d11, d12⟩, h1, h2⟩ := ph_bd h
      exact br_f (of_decide_eq_false c) (ph_s_mvp h1 (nm_e (ih _ _ _ _ _ _ _ _ _ _ _ _ _ _ h2)))
theorem ph_s_174 {o t : Int32} {post : St2 → Prop} {J : Int32 → Int32 → (Nat → Int32) → (Nat → Int32) → (Nat → Int32) → (Nat → Int32) → (Nat → Int32) → (Nat → Int32) → (Nat → Int32) → (Nat → Int32) → (Nat → Int32) → (Nat → Int32) → (Nat → Int32) → (Nat → Int32) → Prop}
    {p x2 x3 x4 x : Int32} {f : Int32} {a1 a2 a3 a4 a5 a6 a7 a8 a9 a10 a11 a12 : Nat → Int32} {k : Int32} {d1 d2 d3 d4 d5 d6 d7 d8 d9 d10 d11 d12 : Nat → Int32} (i : vp_in x 120) (h : ph_scT (f, a1, a2, a3, a4, a5, a6, a7, a8, a9, a10, a11, a12) x p = some (k, d1, d2, d3, d4, d5, d6, d7, d8, d9, d10, d11, d12)) (hp : J (x + 1) k d1 (ph_dd o t d2) d3 d4 d5 d6 (ph_dd o t d7) d8 (ph_dd o t d9) d10 d11 d12) : wX_collectHeap_174 post J p x2 x3 x4 x f a1 (ph_dd o t a2) a3 a4 a5 a6 (ph_dd o t a7) a8 (ph_dd o t a9) a10 a11 a12 := by
  rcases ph_if_mp h with ⟨c, h⟩ | ⟨c, h⟩
  · obtain ⟨⟨r, g, b1, b2, b3, b4, b5, b6, b7, b8, b9, b10, b11, b12⟩, h1, h2⟩ := ph_bd h
    obtain ⟨c2, h2⟩ := ph_ck_mp h2
    cases h2
    have hp' : J (x + 1) k d1 (ph_dd o t d2) d3 d4 d5 d6 (ph_dd o t d7) d8 (upd (ph_dd o t b9) x.toNatClampNeg r) d10 d11 d12 := by
      have z : ph_dd o t (upd b9 x.toNatClampNeg r) = upd (ph_dd o t b9) x.toNatClampNeg r := by rw [ph_dd_upd, ph_dl_inb c2]
      rw [← z]
      exact hp
    exact And.intro i (br_t (of_decide_eq_true c) (And.intro i (ph_s_moved rfl h1 (And.intro i (nm_e (nm_e hp'))))))
  · cases h
    exact And.intro i (br_f (of_decide_eq_false c) (nm_e hp))
theorem ph_s_l120 {o t : Int32} {post : St2 → Prop} {p x2 x3 b : Int32} {g : Int32} {b1 b2 b3 b4 b5 b6 b7 b8 b9 b10 b11 b12 : Nat → Int32} (K : wX_collectHeap_210 post x2 x3 g b1 (ph_dd o t b2) b3 b4 b5 b6 (ph_dd o t b7) b8 (ph_dd o t b9) b10 b11 b12) :
    ∀ (n : Nat) (x : Int32) (f : Int32) (a1 a2 a3 a4 a5 a6 a7 a8 a9 a10 a11 a12 : Nat → Int32), ph_l120 p b n x (f, a1, a2, a3, a4, a5, a6, a7, a8, a9, a10, a11, a12) = some (g, b1, b2, b3, b4, b5, b6, b7, b8, b9, b10, b11, b12) → wX_collectHeap_120 post p x2 x3 b n x f a1 (ph_dd o t a2) a3 a4 a5 a6 (ph_dd o t a7) a8 (ph_dd o t a9) a10 a11 a12 := by
  intro n
  induction n with
  | zero => exact fun x f a1 a2 a3 a4 a5 a6 a7 a8 a9 a10 a11 a12 h => absurd h.symm (Option.some_ne_none _)
  | succ n ih =>
    intro x f a1 a2 a3 a4 a5 a6 a7 a8 a9 a10 a11 a12 h
    obtain ⟨c1, h⟩ := ph_ck_mp h
    rcases ph_if_mp h with ⟨c, h⟩ | ⟨c, h⟩
    · cases h
      exact And.intro (ph_in_v c1) (br_t (of_decide_eq_true c) K)
    · rcases ph_if_mp h with ⟨cc, h⟩ | ⟨cc, h⟩
      · cases h
        exact And.intro (ph_in_v c1) (br_f (of_decide_eq_false c) (br_t (of_decide_eq_true cc) K))
      · obtain ⟨c2, h⟩ := ph_ck_mp h
        have i := ph_in_v c2
        obtain ⟨⟨k, d1, d2, d3, d4, d5, d6, d7, d8, d9, d10, d11, d12⟩, h1, h⟩ := ph_bd h
        obtain ⟨⟨l, e1, e2, e3, e4, e5, e6, e7, e8, e9, e10, e11, e12⟩, h2, h⟩ := ph_bd h
        have I := ih _ _ _ _ _ _ _ _ _ _ _ _ _ _ h
        have I2 : wX_collectHeap_174 post (wX_collectHeap_120 post p x2 x3 b n) p x2 x3 b x k d1 (ph_dd o t d2) d3 d4 d5 d6 (ph_dd o t d7) d8 (ph_dd o t d9) d10 d11 d12 := ph_s_174 i h2 I
        refine And.intro (ph_in_v c1) (br_f (of_decide_eq_false c) (br_f (of_decide_eq_false cc) (And.intro i ?_)))
        rcases ph_if_mp h1 with ⟨d, h1⟩ | ⟨d, h1⟩
        · obtain ⟨⟨r, w⟩, h3, h4⟩ := ph_bd h1
          obtain ⟨m, m1, m2, m3, m4, m5, m6, m7, m8, m9, m10, m11, m12⟩ := w
          obtain ⟨c3, h4⟩ := ph_ck_mp h4
          cases h4
          have z : ph_dd o t (upd m7 x.toNatClampNeg r) = upd (ph_dd o t m7) x.toNatClampNeg r := by rw [ph_dd_upd, ph_dl_inb c3]
          rw [z] at I2
          exact br_t (of_decide_eq_true d) (And.intro i (ph_s_moved_2 rfl h3 (And.intro i (nm_e I2))))
        · cases h1
          exact br_f (of_decide_eq_false d) I2
theorem ph_s_gc {o t : Int32} {post : St2 → Prop} {f : Int32} {a1 a2 a3 a4 a5 a6 a7 a8 a9 a10 a11 a12 : Nat → Int32} {u' : St2} {p : Int32} (h : ph_gc (f, a1, a2, a3, a4, a5, a6, a7, a8, a9, a10, a11, a12) p = some u') (hp : post (ph_dc o t u')) : wpX_collectHeap post (f, a1, ph_dd o t a2, a3, a4, a5, a6, ph_dd o t a7, a8, ph_dd o t a9, a10, a11, a12) p := by
  obtain ⟨c1, h⟩ := ph_ck_mp h
  have i := ph_in_v c1
  obtain ⟨⟨k, d1, d2, d3, d4, d5, d6, d7, d8, d9, d10, d11, d12⟩, h1, h⟩ := ph_bd h
  obtain ⟨⟨g, b1, b2, b3, b4, b5, b6, b7, b8, b9, b10, b11, b12⟩, h2, h⟩ := ph_bd h
  obtain ⟨⟨l, e1, e2, e3, e4, e5, e6, e7, e8, e9, e10, e11, e12⟩, h3, h⟩ := ph_bd h
  obtain ⟨m, m1, m2, m3, m4, m5, m6, m7, m8, m9, m10, m11, m12⟩ := u'
  have K1 : wX_collectHeap_210 post (ph_bs a4 p) (ph_bs a4 p + a5 p.toNatClampNeg) l e1 (ph_dd o t e2) e3 e4 e5 e6 (ph_dd o t e7) e8 (ph_dd o t e9) e10 e11 e12 := by
    unfold wX_collectHeap_210
    exact ⟨21, ph_s_sweep hp 21 _ _ _ _ _ _ _ _ _ _ _ _ _ _ h⟩
  have K2 : vp_in p 3 ∧ ∀ x4 : Int32, x4 = (40 * p) + (20 * (b4 p.toNatClampNeg)) → ∃ n : Nat, wX_collectHeap_120 post p (ph_bs a4 p) (ph_bs a4 p + a5 p.toNatClampNeg) x4 n x4 g b1 (ph_dd o t b2) b3 b4 b5 b6 (ph_dd o t b7) b8 (ph_dd o t b9) b10 b11 b12 := And.intro i (nm_e ⟨21, ph_s_l120 K1 21 _ _ _ _ _ _ _ _ _ _ _ _ _ _ h3⟩)
  have K3 : ∃ n : Nat, wX_collectHeap_74 post p (ph_bs a4 p) (ph_bs a4 p + a5 p.toNatClampNeg) n 0 k d1 (ph_dd o t d2) d3 d4 d5 d6 (ph_dd o t d7) d8 (ph_dd o t d9) d10 d11 d12 := ⟨4, ph_s_l74 K2 4 _ _ _ _ _ _ _ _ _ _ _ _ _ _ h2⟩
  exact And.intro i (nm_e (And.intro i (nm_e (And.intro i (And.intro i (nm_e (And.intro i (nm_e ⟨5, ph_s_l48 K3 5 _ _ _ _ _ _ _ _ _ _ _ _ _ _ h1⟩))))))))
theorem ph_s_collect {o t : Int32} {post : Int32 → St2 → Prop} {f : Int32} {a1 a2 a3 a4 a5 a6 a7 a8 a9 a10 a11 a12 : Nat → Int32} {u' : St2} {p : Int32} (h : ph_collect (f, a1, a2, a3, a4, a5, a6, a7, a8, a9, a10, a11, a12) p = some u') (hp : post (ph_used u' p) (ph_dc o t u')) : wpX_collect post (f, a1, ph_dd o t a2, a3, a4, a5, a6, ph_dd o t a7, a8, ph_dd o t a9, a10, a11, a12) p := by
  obtain ⟨c1, h⟩ := ph_ck_mp h
  obtain ⟨c2, h⟩ := ph_ck_mp h
  obtain ⟨g, b1, b2, b3, b4, b5, b6, b7, b8, b9, b10, b11, b12⟩ := u'
  unfold wpX_collect
  exact ph_s_fits c1 (br_f ph_10 (ph_s_gc h (And.intro (ph_in_v c2) hp)))
end
section
theorem ph_s_room {o t : Int32} {post : Int32 → St2 → Prop} {f : Int32} {a1 a2 a3 a4 a5 a6 a7 a8 a9 a10 a11 a12 : Nat → Int32} {p n : Int32} (h : ph_room (f, a1, a2, a3, a4, a5, a6, a7, a8, a9, a10, a11, a12) p n = true) (hp : post 1 (f, a1, ph_dd o t a2, a3, a4, a5, a6, ph_dd o t a7, a8, ph_dd o t a9, a10, a11, a12)) : wpX_makeRoom post (f, a1, ph_dd o t a2, a3, a4, a5, a6, ph_dd o t a7, a8, ph_dd o t a9, a10, a11, a12) p n := by
  obtain ⟨h1, h2⟩ := (Bool.and_eq_true_iff).mp h
  obtain ⟨h0, h1⟩ := (Bool.and_eq_true_iff).mp h1
  have i := ph_in_v h0
  exact And.intro i (br_t (of_decide_eq_true h1) (And.intro i (br_f (ph_nd h2) hp)))
theorem ph_s_fill {o t : Int32} {post : St2 → Prop} {f : Int32} {a1 a2 a3 a4 a5 a6 a7 a8 a9 a10 a11 a12 : Nat → Int32} {u' : St2} {c hk hv tk tv hw tw : Int32} (eh : hw = ph_dl o t hv) (et : tw = ph_dl o t tv) (h : ph_fill (f, a1, a2, a3, a4, a5, a6, a7, a8, a9, a10, a11, a12) c hk hv tk tv = some u') (hp : post (ph_dc o t u')) :
    wpX_fill post (f, a1, ph_dd o t a2, a3, a4, a5, a6, ph_dd o t a7, a8, ph_dd o t a9, a10, a11, a12) c hk hw tk tw := by
  obtain ⟨c1, h⟩ := ph_ck_mp h
  obtain ⟨c2, h⟩ := ph_ck_mp h
  obtain ⟨c3, h⟩ := ph_ck_mp h
  cases h
  have i := ph_in_v c3
  have hp' : post (f, a1, ph_dd o t a2, a3, a4, a5, upd a6 c.toNatClampNeg hk, upd (ph_dd o t a7) c.toNatClampNeg hw, upd a8 c.toNatClampNeg tk, upd (ph_dd o t a9) c.toNatClampNeg tw, a10, a11, a12) := by
    rw [eh, et, ← ph_dd_upd, ← ph_dd_upd]
    exact hp
  unfold wpX_fill
  exact ph_s_hold (ph_n3_v c1) (ph_s_hold (ph_n3_v c2) (And.intro i (nm_e (And.intro i (nm_e (And.intro i (nm_e (And.intro i (nm_e hp')))))))))
theorem ph_s_pair {o t : Int32} {post : Int32 → St2 → Prop} {f : Int32} {a1 a2 a3 a4 a5 a6 a7 a8 a9 a10 a11 a12 : Nat → Int32} {u' : St2} {p d h w : Int32} (hr : ph_pair (f, a1, a2, a3, a4, a5, a6, a7, a8, a9, a10, a11, a12) p d h w = some u') (hp : post 0 (ph_dc o t u')) : wpX_pair post (f, a1, ph_dd o t a2, a3, a4, a5, a6, ph_dd o t a7, a8, ph_dd o t a9, a10, a11, a12) p d h w := by
  obtain ⟨c1, hr⟩ := ph_ck_mp hr
  obtain ⟨c2, hr⟩ := ph_ck_mp hr
  obtain ⟨c3, hr⟩ := ph_ck_mp hr
  obtain ⟨c4, hr⟩ := ph_ck_mp hr
  obtain ⟨c5, hr⟩ := ph_ck_mp hr
  obtain ⟨c6, hr⟩ := ph_ck_mp hr
  obtain ⟨c7, hr⟩ := ph_ck_mp hr
  obtain ⟨c8, hr⟩ := ph_ck_mp hr
  obtain ⟨⟨k, d1, d2, d3, d4, d5, d6, d7, d8, d9, d10, d11, d12⟩, h1, h2⟩ := ph_bd hr
  obtain ⟨g, b1, b2, b3, b4, b5, b6, b7, b8, b9, b10, b11, b12⟩ := u'
  have i := ph_in_v c5
  unfold wpX_pair
  refine ph_s_fits c1 (br_f ph_10 (ph_s_fits c2 (br_f ph_10 (ph_s_fits c3 (br_f ph_10 (ph_s_room c4 (br_f ph_10 ?_)))))))
  refine And.intro i (And.intro i (nm_e (And.intro i (And.intro i (nm_e (nm_e (nm_e (And.intro (ph_in_v c6) (And.intro (ph_in_v c6) (And.intro (ph_in_v c7) (And.intro (ph_in_v c7) ?_)))))))))))
  exact ph_s_fill rfl rfl h1 (ph_s_assign (ph_dl_inb c8).symm h2 hp)
theorem ph_s_pairs {o t : Int32} {post : Int32 → Prop} {u : St2} {p : Int32} (c1 : ph_fits p 0 = true) (c2 : ph_in p 3 = true) (hp : post (ph_used u p)) : wpX_pairs post (ph_dc o t u) p := by
  obtain ⟨f, a1, a2, a3, a4, a5, a6, a7, a8, a9, a10, a11, a12⟩ := u
  show wpX_pairs post (f, a1, ph_dd o t a2, a3, a4, a5, a6, ph_dd o t a7, a8, ph_dd o t a9, a10, a11, a12) p
  unfold wpX_pairs
  exact ph_s_fits c1 (br_f ph_10 (And.intro (ph_in_v c2) hp))
theorem ph_s_enl {o t : Int32} {post : St2 → Prop} {f : Int32} {a1 a2 a3 a4 a5 a6 a7 a8 a9 a10 a11 a12 : Nat → Int32} {u' : St2} {k v w : Int32} (hv : w = ph_dl o t v) (h : ph_enl (f, a1, a2, a3, a4, a5, a6, a7, a8, a9, a10, a11, a12) k v = some u') (hp : post (ph_dc o t u')) : wpX_enlist post (f, a1, ph_dd o t a2, a3, a4, a5, a6, ph_dd o t a7, a8, ph_dd o t a9, a10, a11, a12) k w := by
  rcases ph_if_mp h with ⟨c, h⟩ | ⟨c, h⟩
  · obtain ⟨c1, h⟩ := ph_ck_mp h
    have ew : w = v := hv.trans (ph_dl_inb c1)
    rw [ew]
    have i := ph_in_v c1
    rcases ph_if_mp h with ⟨d, h⟩ | ⟨d, h⟩
    · cases h
      exact br_t (of_decide_eq_true c) (And.intro i (br_t (of_decide_eq_true d) hp))
    · obtain ⟨c2, h⟩ := ph_ck_mp h
      cases h
      exact br_t (of_decide_eq_true c) (And.intro i (br_f (of_decide_eq_false d) (And.intro i (nm_e (And.intro (ph_in_v c2) (nm_e (nm_e hp)))))))
  · cases h
    exact br_f (of_decide_eq_false c) hp
theorem ph_s_ff {o t : Int32} {post : St2 → Prop} {u' : St2} (hp : post (ph_dc o t u')) : ∀ (n : Nat) (x : Int32) (f : Int32) (a1 a2 a3 a4 a5 a6 a7 a8 a9 a10 a11 a12 : Nat → Int32), ph_ff n x (f, a1, a2, a3, a4, a5, a6, a7, a8, a9, a10, a11, a12) = some u' → wX_forgetForwards_2 post f n x a1 (ph_dd o t a2) a3 a4 a5 a6 (ph_dd o t a7) a8 (ph_dd o t a9) a10 a11 a12 := by
  intro n
  induction n with
  | zero => exact fun x f a1 a2 a3 a4 a5 a6 a7 a8 a9 a10 a11 a12 h => absurd h.symm (Option.some_ne_none u')
  | succ n ih =>
    intro x f a1 a2 a3 a4 a5 a6 a7 a8 a9 a10 a11 a12 h
    rcases ph_if_mp h with ⟨c, h⟩ | ⟨c, h⟩
    · cases h
      exact br_t (of_decide_eq_true c) hp
    · obtain ⟨c1, h⟩ := ph_ck_mp h
      obtain ⟨c2, h⟩ := ph_ck_mp h
      exact br_f (of_decide_eq_false c) (And.intro (ph_in_v c1) (And.intro (ph_in_v c2) (nm_e (nm_e (ih _ _ _ _ _ _ _ _ _ _ _ _ _ _ h)))))
theorem ph_s_82 {o t : Int32} {post : St2 → Prop} {f : Int32} {a1 a2 a3 a4 a5 a6 a7 a8 a9 a10 a11 a12 : Nat → Int32} {u' : St2} (h : ph_ff 21 0 (f, a1, a2, a3, a4, a5, a6, a7, a8, a9, a10, a11, a12) = some u') (hp : post (ph_dc o t u')) : wX_listPairs_82 post f a1 (ph_dd o t a2) a3 a4 a5 a6 (ph_dd o t a7) a8 (ph_dd o t a9) a10 a11 a12 := by
  obtain ⟨g, b1, b2, b3, b4, b5, b6, b7, b8, b9, b10, b11, b12⟩ := u'
  unfold wX_listPairs_82
  exact ⟨21, ph_s_ff hp 21 _ _ _ _ _ _ _ _ _ _ _ _ _ _ h⟩
theorem ph_s_l23 {o t : Int32} {post : St2 → Prop} {g : Int32} {b1 b2 b3 b4 b5 b6 b7 b8 b9 b10 b11 b12 : Nat → Int32} (K : wX_listPairs_82 post g b1 (ph_dd o t b2) b3 b4 b5 b6 (ph_dd o t b7) b8 (ph_dd o t b9) b10 b11 b12) : ∀ (n : Nat) (x : Int32) (f : Int32) (a1 a2 a3 a4 a5 a6 a7 a8 a9 a10 a11 a12 : Nat → Int32), ph_l23 n x (f, a1, a2, a3, a4, a5, a6, a7, a8, a9, a10, a11, a12) = some (g, b1, b2, b3, b4, b5, b6, b7, b8, b9, b10, b11, b12) → wX_listPairs_23 post n x f a1 (ph_dd o t a2) a3 a4 a5 a6 (ph_dd o t a7) a8 (ph_dd o t a9) a10 a11 a12 := by
  intro n
  induction n with
  | zero => exact fun x f a1 a2 a3 a4 a5 a6 a7 a8 a9 a10 a11 a12 h => absurd h.symm (Option.some_ne_none _)
  | succ n ih =>
    intro x f a1 a2 a3 a4 a5 a6 a7 a8 a9 a10 a11 a12 h
    rcases ph_if_mp h with ⟨c, h⟩ | ⟨c, h⟩
    · cases h
      exact br_t (of_decide_eq_true c) K
    · rcases ph_if_mp h with ⟨cc, h⟩ | ⟨cc, h⟩
      · cases h
        exact br_f (of_decide_eq_false c) (br_t (of_decide_eq_true cc) K)
      · obtain ⟨c1, h⟩ := ph_ck_mp h
        obtain ⟨c2, h⟩ := ph_ck_mp h
        obtain ⟨⟨k, d1, d2, d3, d4, d5, d6, d7, d8, d9, d10, d11, d12⟩, h1, h⟩ := ph_bd h
        obtain ⟨⟨l, e1, e2, e3, e4, e5, e6, e7, e8, e9, e10, e11, e12⟩, h2, h⟩ := ph_bd h
        have I := ih _ _ _ _ _ _ _ _ _ _ _ _ _ _ h
        have j := ph_in_v c2
        exact br_f (of_decide_eq_false c) (br_f (of_decide_eq_false cc) (And.intro (ph_in_v c1) (nm_e (And.intro j (And.intro j (ph_s_enl rfl h1 (And.intro j (And.intro j (ph_s_enl rfl h2 (nm_e I))))))))))
theorem ph_s_lp {o t : Int32} {post : St2 → Prop} {f : Int32} {a1 a2 a3 a4 a5 a6 a7 a8 a9 a10 a11 a12 : Nat → Int32} {u' : St2} {q : Int32} (h : ph_lp (f, a1, a2, a3, a4, a5, a6, a7, a8, a9, a10, a11, a12) q = some u') (hp : post (ph_dc o t u')) : wpX_listPairs post (f, a1, ph_dd o t a2, a3, a4, a5, a6, ph_dd o t a7, a8, ph_dd o t a9, a10, a11, a12) q := by
  obtain ⟨c1, h⟩ := ph_ck_mp h
  obtain ⟨⟨k, d1, d2, d3, d4, d5, d6, d7, d8, d9, d10, d11, d12⟩, h1, h⟩ := ph_bd h
  obtain ⟨⟨l, e1, e2, e3, e4, e5, e6, e7, e8, e9, e10, e11, e12⟩, h2, h⟩ := ph_bd h
  have i := ph_in_v c1
  exact And.intro i (And.intro i (ph_s_enl rfl h1 ⟨21, ph_s_l23 (ph_s_82 h hp) 21 _ _ _ _ _ _ _ _ _ _ _ _ _ _ h2⟩))
theorem ph_s_cl34 {o t : Int32} {post : St2 → Prop} {u' : St2} (hp : post (ph_dc o t u')) : ∀ (n : Nat) (x : Int32) (f : Int32) (a1 a2 a3 a4 a5 a6 a7 a8 a9 a10 a11 a12 : Nat → Int32), ph_cl34 n x (f, a1, a2, a3, a4, a5, a6, a7, a8, a9, a10, a11, a12) = some u' → wX_copyListed_34 post n x f a1 (ph_dd o t a2) a3 a4 a5 a6 (ph_dd o t a7) a8 (ph_dd o t a9) a10 a11 a12 := by
  intro n
  induction n with
  | zero => exact fun x f a1 a2 a3 a4 a5 a6 a7 a8 a9 a10 a11 a12 h => absurd h.symm (Option.some_ne_none u')
  | succ n ih =>
    intro x f a1 a2 a3 a4 a5 a6 a7 a8 a9 a10 a11 a12 h
    rcases ph_if_mp h with ⟨c, h⟩ | ⟨c, h⟩
    · cases h
      exact br_t (of_decide_eq_true c) hp
    · obtain ⟨c1, h⟩ := ph_ck_mp h
      obtain ⟨c2, h⟩ := ph_ck_mp h
      obtain ⟨hv, h1, h⟩ := ph_bd h
      obtain ⟨tv, h2, h⟩ := ph_bd h
      obtain ⟨⟨k, d1, d2, d3, d4, d5, d6, d7, d8, d9, d10, d11, d12⟩, h3, h⟩ := ph_bd h
      have I := ih _ _ _ _ _ _ _ _ _ _ _ _ _ _ h
      have i := ph_in_v c2
      have A : ∀ y z : Int32, y = ph_dl o t hv → z = ph_dl o t tv → wX_copyListed_111 post (wX_copyListed_34 post n) x (a12 x.toNatClampNeg) y z f a1 (ph_dd o t a2) a3 a4 a5 a6 (ph_dd o t a7) a8 (ph_dd o t a9) a10 a11 a12 := fun y z ey ez => And.intro i (And.intro i (And.intro i (ph_s_fill ey ez h3 (nm_e I))))
      have B : ∀ y : Int32, y = ph_dl o t hv → wX_copyListed_79 post (wX_copyListed_34 post n) x (a12 x.toNatClampNeg) y f a1 (ph_dd o t a2) a3 a4 a5 a6 (ph_dd o t a7) a8 (ph_dd o t a9) a10 a11 a12 := by
        intro y ey
        rcases ph_if_mp h2 with ⟨d, h2⟩ | ⟨d, h2⟩
        · obtain ⟨d1, h2⟩ := ph_ck_mp h2
          obtain ⟨d2, h2⟩ := ph_ck_mp h2
          cases h2
          have e : ph_dd o t a9 (a12 x.toNatClampNeg).toNatClampNeg = a9 (a12 x.toNatClampNeg).toNatClampNeg := ph_dl_inb d1
          refine And.intro i (br_t (of_decide_eq_true d) (And.intro i ?_))
          rw [e]
          exact And.intro (ph_in_v d1) (A _ _ ey (ph_dl_inb d2).symm)
        · cases h2
          exact And.intro i (br_f (of_decide_eq_false d) (And.intro i (A _ _ ey rfl)))
      refine br_f (of_decide_eq_false c) (And.intro (ph_in_v c1) (nm_e (And.intro i ?_)))
      rcases ph_if_mp h1 with ⟨d, h1⟩ | ⟨d, h1⟩
      · obtain ⟨d1, h1⟩ := ph_ck_mp h1
        obtain ⟨d2, h1⟩ := ph_ck_mp h1
        cases h1
        have e : ph_dd o t a7 (a12 x.toNatClampNeg).toNatClampNeg = a7 (a12 x.toNatClampNeg).toNatClampNeg := ph_dl_inb d1
        refine br_t (of_decide_eq_true d) (And.intro i ?_)
        rw [e]
        exact And.intro (ph_in_v d1) (B _ (ph_dl_inb d2).symm)
      · cases h1
        exact br_f (of_decide_eq_false d) (And.intro i (B _ rfl))
theorem ph_s_cl2 {o t : Int32} {post : St2 → Prop} {p : Int32} {g : Int32} {b1 b2 b3 b4 b5 b6 b7 b8 b9 b10 b11 b12 : Nat → Int32} (K : ∃ n : Nat, wX_copyListed_34 post n 0 g b1 (ph_dd o t b2) b3 b4 b5 b6 (ph_dd o t b7) b8 (ph_dd o t b9) b10 b11 b12) : ∀ (n : Nat) (x : Int32) (f : Int32) (a1 a2 a3 a4 a5 a6 a7 a8 a9 a10 a11 a12 : Nat → Int32), ph_cl2 p n x (f, a1, a2, a3, a4, a5, a6, a7, a8, a9, a10, a11, a12) = some (g, b1, b2, b3, b4, b5, b6, b7, b8, b9, b10, b11, b12) → wX_copyListed_2 post p n x f a1 (ph_dd o t a2) a3 a4 a5 a6 (ph_dd o t a7) a8 (ph_dd o t a9) a10 a11 a12 := by
  intro n
  induction n with
  | zero => exact fun x f a1 a2 a3 a4 a5 a6 a7 a8 a9 a10 a11 a12 h => absurd h.symm (Option.some_ne_none _)
  | succ n ih =>
    intro x f a1 a2 a3 a4 a5 a6 a7 a8 a9 a10 a11 a12 h
    rcases ph_if_mp h with ⟨c, h⟩ | ⟨c, h⟩
    · cases h
      exact br_t (of_decide_eq_true c) K
    · obtain ⟨c1, h⟩ := ph_ck_mp h
      obtain ⟨c2, h⟩ := ph_ck_mp h
      obtain ⟨c3, h⟩ := ph_ck_mp h
      have I := ih _ _ _ _ _ _ _ _ _ _ _ _ _ _ h
      have j := ph_in_v c2
      exact br_f (of_decide_eq_false c) (And.intro (ph_in_v c1) (And.intro j (And.intro j (nm_e (And.intro j (And.intro j (nm_e (And.intro (ph_in_v c3) (nm_e (nm_e I))))))))))
theorem ph_s_copy {o t : Int32} {post : St2 → Prop} {f : Int32} {a1 a2 a3 a4 a5 a6 a7 a8 a9 a10 a11 a12 : Nat → Int32} {u3 u' : St2} {p : Int32} (h1 : ph_cl2 p 21 0 (f, a1, a2, a3, a4, a5, a6, a7, a8, a9, a10, a11, a12) = some u3) (h2 : ph_cl34 21 0 u3 = some u') (hp : post (ph_dc o t u')) : wpX_copyListed post (f, a1, ph_dd o t a2, a3, a4, a5, a6, ph_dd o t a7, a8, ph_dd o t a9, a10, a11, a12) p := by
  obtain ⟨g, b1, b2, b3, b4, b5, b6, b7, b8, b9, b10, b11, b12⟩ := u3
  exact ⟨21, ph_s_cl2 ⟨21, ph_s_cl34 hp 21 _ _ _ _ _ _ _ _ _ _ _ _ _ _ h2⟩ 21 _ _ _ _ _ _ _ _ _ _ _ _ _ _ h1⟩
theorem ph_s_127 {o t : Int32} {post : Int32 → St2 → Prop} {f : Int32} {a1 a2 a3 a4 a5 a6 a7 a8 a9 a10 a11 a12 : Nat → Int32} {u5 u' : St2} {q v w k m : Int32} (i : vp_in q 3) (hv : w = ph_dl o t v) (h1 : ph_assign (f, a1, a2, a3, a4, a5, a6, a7, a8, a9, a10, a11, a12) m k v = some u5)
    (h2 : (match u5 with | (k, d1, d2, d3, d4, d5, d6, d7, d8, d9, d10, d11, d12) => ph_ff 21 0 (k, d1, d2, upd d3 q.toNatClampNeg (d3 q.toNatClampNeg + 1), d4, d5, d6, d7, d8, d9, d10, d11, d12)) = some u') (hp : post 0 (ph_dc o t u')) : wX_send_127 post q w k m f a1 (ph_dd o t a2) a3 a4 a5 a6 (ph_dd o t a7) a8 (ph_dd o t a9) a10 a11 a12 := by
  obtain ⟨l, e1, e2, e3, e4, e5, e6, e7, e8, e9, e10, e11, e12⟩ := u5
  obtain ⟨g, b1, b2, b3, b4, b5, b6, b7, b8, b9, b10, b11, b12⟩ := u'
  unfold wX_send_127
  exact ph_s_assign hv h1 (And.intro i (And.intro i (nm_e ⟨21, ph_s_ff (post := fun u => post 0 u) hp 21 _ _ _ _ _ _ _ _ _ _ _ _ _ _ h2⟩)))
end
section
theorem ph_s_send {o t : Int32} {post : Int32 → St2 → Prop} {f : Int32} {a1 a2 a3 a4 a5 a6 a7 a8 a9 a10 a11 a12 : Nat → Int32} {u' : St2} {p s q : Int32} (h : ph_send (f, a1, a2, a3, a4, a5, a6, a7, a8, a9, a10, a11, a12) p s q = some u') (hp : post 0 (ph_dc o t u')) : wpX_send post (f, a1, ph_dd o t a2, a3, a4, a5, a6, ph_dd o t a7, a8, ph_dd o t a9, a10, a11, a12) p s q := by
  obtain ⟨c1, h⟩ := ph_ck_mp h
  obtain ⟨c2, h⟩ := ph_ck_mp h
  obtain ⟨c3, h⟩ := ph_ck_mp h
  obtain ⟨c4, h⟩ := ph_ck_mp h
  obtain ⟨⟨g, b1, b2, b3, b4, b5, b6, b7, b8, b9, b10, b11, b12⟩, h1, h⟩ := ph_bd h
  obtain ⟨c5, h⟩ := ph_ck_mp h
  obtain ⟨⟨k, d1, d2, d3, d4, d5, d6, d7, d8, d9, d10, d11, d12⟩, h2, h⟩ := ph_bd h
  obtain ⟨u3, h3, h⟩ := ph_bd h
  obtain ⟨⟨l, e1, e2, e3, e4, e5, e6, e7, e8, e9, e10, e11, e12⟩, h4, h⟩ := ph_bd h
  obtain ⟨c6, h⟩ := ph_ck_mp h
  obtain ⟨c7, h⟩ := ph_ck_mp h
  obtain ⟨v, h5, h⟩ := ph_bd h
  obtain ⟨u5, h6, h7⟩ := ph_bd h
  have i := ph_in_v c6
  have j := ph_in_v c7
  have A : ∀ w : Int32, w = ph_dl o t v → wX_send_127 post q w (e1 ((4 * p) + s).toNatClampNeg) ((12 + (3 * q)) + (e3 q.toNatClampNeg)) l e1 (ph_dd o t e2) e3 e4 e5 e6 (ph_dd o t e7) e8 (ph_dd o t e9) e10 e11 e12 := fun w hw => ph_s_127 i hw h6 h7 hp
  unfold wpX_send
  refine ph_s_fits c1 (br_f ph_10 (ph_s_fits c2 (br_f ph_10 (And.intro (ph_in_v c3) (br_t (of_decide_eq_true c4) (nm_e ?_))))))
  refine ph_s_lp h1 (ph_s_room c5 (br_f ph_10 (ph_s_lp h2 (ph_s_copy h3 h4 (And.intro i (nm_e (And.intro j (nm_e ?_))))))))
  rcases ph_if_mp h5 with ⟨d, h5⟩ | ⟨d, h5⟩
  · obtain ⟨d1, h5⟩ := ph_ck_mp h5
    obtain ⟨d2, h5⟩ := ph_ck_mp h5
    cases h5
    have e : ph_dd o t e2 ((4 * p) + s).toNatClampNeg = e2 ((4 * p) + s).toNatClampNeg := ph_dl_inb d1
    refine br_t (of_decide_eq_true d) (And.intro j ?_)
    rw [e]
    exact And.intro (ph_in_v d1) (A _ (ph_dl_inb d2).symm)
  · cases h5
    exact br_f (of_decide_eq_false d) (And.intro j (A _ rfl))
theorem ph_s_l53 {o t : Int32} {post : Int32 → St2 → Prop} {q x3 : Int32} {u' : St2} (hp : post 0 (ph_dc o t u')) : ∀ (n : Nat) (x : Int32) (f : Int32) (a1 a2 a3 a4 a5 a6 a7 a8 a9 a10 a11 a12 : Nat → Int32), ph_l53 q x3 n x (f, a1, a2, a3, a4, a5, a6, a7, a8, a9, a10, a11, a12) = some u' → wX_receive_53 post q x3 n x f a1 (ph_dd o t a2) a3 a4 a5 a6 (ph_dd o t a7) a8 (ph_dd o t a9) a10 a11 a12 := by
  intro n
  induction n with
  | zero => exact fun x f a1 a2 a3 a4 a5 a6 a7 a8 a9 a10 a11 a12 h => absurd h.symm (Option.some_ne_none u')
  | succ n ih =>
    intro x f a1 a2 a3 a4 a5 a6 a7 a8 a9 a10 a11 a12 h
    rcases ph_if_mp h with ⟨c, h⟩ | ⟨c, h⟩
    · obtain ⟨⟨g, b1, b2, b3, b4, b5, b6, b7, b8, b9, b10, b11, b12⟩, h1, h⟩ := ph_bd h
      obtain ⟨c1, h⟩ := ph_ck_mp h
      cases h
      have i := ph_in_v c1
      exact br_t (of_decide_eq_true c) (ph_s_assign ph_dl_0 h1 (And.intro i (And.intro i (nm_e hp))))
    · obtain ⟨c1, h⟩ := ph_ck_mp h
      obtain ⟨⟨g, b1, b2, b3, b4, b5, b6, b7, b8, b9, b10, b11, b12⟩, h1, h⟩ := ph_bd h
      have i := ph_in_v c1
      exact br_f (of_decide_eq_false c) (And.intro i (And.intro i (ph_s_assign rfl h1 (nm_e (ih _ _ _ _ _ _ _ _ _ _ _ _ _ _ h)))))
theorem ph_s_recv {o t : Int32} {post : Int32 → St2 → Prop} {f : Int32} {a1 a2 a3 a4 a5 a6 a7 a8 a9 a10 a11 a12 : Nat → Int32} {u' : St2} {q d : Int32} (h : ph_recv (f, a1, a2, a3, a4, a5, a6, a7, a8, a9, a10, a11, a12) q d = some u') (hp : post 0 (ph_dc o t u')) : wpX_receive post (f, a1, ph_dd o t a2, a3, a4, a5, a6, ph_dd o t a7, a8, ph_dd o t a9, a10, a11, a12) q d := by
  obtain ⟨c1, h⟩ := ph_ck_mp h
  obtain ⟨c2, h⟩ := ph_ck_mp h
  obtain ⟨c3, h⟩ := ph_ck_mp h
  obtain ⟨c4, h⟩ := ph_ck_mp h
  obtain ⟨⟨g, b1, b2, b3, b4, b5, b6, b7, b8, b9, b10, b11, b12⟩, h1, h⟩ := ph_bd h
  have i := ph_in_v c4
  unfold wpX_receive
  exact ph_s_fits c1 (br_f ph_10 (And.intro (ph_in_v c2) (br_f (ph_nd c3) (nm_e (And.intro i (And.intro i (ph_s_assign rfl h1 ⟨3, ph_s_l53 hp 3 _ _ _ _ _ _ _ _ _ _ _ _ _ _ h⟩)))))))
/-- a register that is none: the state stays -/
theorem ph_s_recvBad {post : Int32 → St2 → Prop} {u : St2} {q d : Int32} (hq0 : ¬ q < 0) (hq : ¬ 2 < q) (hd : d < 0 ∨ 3 < d) (hp : post (-1) u) : wpX_receive post u q d := by
  obtain ⟨f, a1, a2, a3, a4, a5, a6, a7, a8, a9, a10, a11, a12⟩ := u
  unfold wpX_receive
  refine br_f hq0 (br_f hq ?_)
  by_cases z : d < 0
  · exact br_t z (br_t rfl hp)
  · refine br_f z ?_
    rcases hd with y | y
    · exact absurd y z
    · exact br_t y (br_t rfl hp)
/-- an empty box: the state stays -/
theorem ph_s_recvNo {o t : Int32} {post : Int32 → St2 → Prop} {u : St2} {q d : Int32} (c1 : ph_fits q d = true) (c2 : ph_in q 3 = true) (c3 : ph_wait u q = 0) (hp : post (-3) (ph_dc o t u)) : wpX_receive post (ph_dc o t u) q d := by
  obtain ⟨f, a1, a2, a3, a4, a5, a6, a7, a8, a9, a10, a11, a12⟩ := u
  show wpX_receive post (f, a1, ph_dd o t a2, a3, a4, a5, a6, ph_dd o t a7, a8, ph_dd o t a9, a10, a11, a12) q d
  unfold wpX_receive
  exact ph_s_fits c1 (br_f ph_10 (And.intro (ph_in_v c2) (br_t c3 hp)))
theorem ph_ok1 {p r : Int32} (h : ph_ok p r = true) : ph_fits p r = true := ((Bool.and_eq_true_iff).mp h).1
theorem ph_ok2 {p r : Int32} (h : ph_ok p r = true) : vp_in ((4 * p) + r) 21 := ph_in_v ((Bool.and_eq_true_iff).mp h).2
theorem ph_s_kind {o t : Int32} {post : Int32 → Prop} {u : St2} {p r : Int32} (c : ph_ok p r = true) (hp : post (ph_kind u p r)) : wpX_kind post (ph_dc o t u) p r := by
  obtain ⟨f, a1, a2, a3, a4, a5, a6, a7, a8, a9, a10, a11, a12⟩ := u
  show wpX_kind post (f, a1, ph_dd o t a2, a3, a4, a5, a6, ph_dd o t a7, a8, ph_dd o t a9, a10, a11, a12) p r
  unfold wpX_kind
  exact ph_s_fits (ph_ok1 c) (br_f ph_10 (And.intro (ph_ok2 c) hp))
theorem ph_s_value2 {o t : Int32} {post : Int32 → Prop} {u : St2} {p r : Int32} (c : ph_ok p r = true) (hk : ph_kind u p r = 2) (hp : post 0) : wpX_value post (ph_dc o t u) p r := by
  obtain ⟨f, a1, a2, a3, a4, a5, a6, a7, a8, a9, a10, a11, a12⟩ := u
  show wpX_value post (f, a1, ph_dd o t a2, a3, a4, a5, a6, ph_dd o t a7, a8, ph_dd o t a9, a10, a11, a12) p r
  unfold wpX_value
  exact ph_s_fits (ph_ok1 c) (br_f ph_10 (nm_e (And.intro (ph_ok2 c) (br_t hk hp))))
theorem ph_s_value {o t : Int32} {post : Int32 → Prop} {u : St2} {p r : Int32} (c : ph_ok p r = true) (hk : ¬ ph_kind u p r = 2) (hp : post (ph_dl o t (ph_val u p r))) : wpX_value post (ph_dc o t u) p r := by
  obtain ⟨f, a1, a2, a3, a4, a5, a6, a7, a8, a9, a10, a11, a12⟩ := u
  show wpX_value post (f, a1, ph_dd o t a2, a3, a4, a5, a6, ph_dd o t a7, a8, ph_dd o t a9, a10, a11, a12) p r
  unfold wpX_value
  exact ph_s_fits (ph_ok1 c) (br_f ph_10 (nm_e (And.intro (ph_ok2 c) (br_f hk (And.intro (ph_ok2 c) hp)))))
theorem ph_s_same {o t : Int32} {post : Int32 → Prop} {u : St2} {p r s : Int32} (c : ph_ok p r = true) (d : ph_ok p s = true) (hk : ph_kind u p r = ph_kind u p s)
    (hp : (ph_dl o t (ph_val u p r) = ph_dl o t (ph_val u p s) → post 1) ∧ (¬ ph_dl o t (ph_val u p r) = ph_dl o t (ph_val u p s) → post 0)) : wpX_same post (ph_dc o t u) p r s := by
  obtain ⟨f, a1, a2, a3, a4, a5, a6, a7, a8, a9, a10, a11, a12⟩ := u
  show wpX_same post (f, a1, ph_dd o t a2, a3, a4, a5, a6, ph_dd o t a7, a8, ph_dd o t a9, a10, a11, a12) p r s
  unfold wpX_same
  exact ph_s_fits (ph_ok1 c) (br_f ph_10 (ph_s_fits (ph_ok1 d) (br_f ph_10 (nm_e (nm_e (And.intro (ph_ok2 c) (And.intro (ph_ok2 d) (br_t hk (And.intro (ph_ok2 c) (And.intro (ph_ok2 d) hp))))))))))
theorem ph_s_part {o t : Int32} {post : Int32 → St2 → Prop} {u u' : St2} {p d s b : Int32} (h : ph_part u p d s b = some u') (hp : post 0 (ph_dc o t u')) : wpX_part post (ph_dc o t u) p d s b := by
  obtain ⟨f, a1, a2, a3, a4, a5, a6, a7, a8, a9, a10, a11, a12⟩ := u
  obtain ⟨c1, h⟩ := ph_ck_mp h
  obtain ⟨c2, h⟩ := ph_ck_mp h
  obtain ⟨c3, h⟩ := ph_ck_mp h
  obtain ⟨c4, h⟩ := ph_ck_mp h
  obtain ⟨c5, h⟩ := ph_ck_mp h
  obtain ⟨g, b1, b2, b3, b4, b5, b6, b7, b8, b9, b10, b11, b12⟩ := u'
  have i := ph_in_v c3
  have j := ph_in_v c5
  have e : ph_dd o t a2 ((4 * p) + s).toNatClampNeg = a2 ((4 * p) + s).toNatClampNeg := ph_dl_inb c5
  show wpX_part post (f, a1, ph_dd o t a2, a3, a4, a5, a6, ph_dd o t a7, a8, ph_dd o t a9, a10, a11, a12) p d s b
  unfold wpX_part
  refine ph_s_fits c1 (br_f ph_10 (ph_s_fits c2 (br_f ph_10 (nm_e (And.intro i (br_t (of_decide_eq_true c4) (And.intro i (nm_r e ?_))))))))
  rcases ph_if_mp h with ⟨c, h⟩ | ⟨c, h⟩
  · exact br_t (of_decide_eq_true c) (And.intro j (And.intro j (ph_s_assign rfl h hp)))
  · exact br_f (of_decide_eq_false c) (And.intro j (And.intro j (ph_s_assign rfl h hp)))
theorem ph_s_l36 {o t : Int32} {post : Int32 → St2 → Prop} {q : Int32} {g : Int32} {b1 b2 b3 b4 b5 b6 b7 b8 b9 b10 b11 b12 : Nat → Int32} (c1 : ph_in q 3 = true) (c2 : (ph_bs b4 q + b5 q.toNatClampNeg) ≤ ph_bs b4 q) (hp : post 0 (g, b1, ph_dd o t b2, upd b3 q.toNatClampNeg 0, b4, upd b5 q.toNatClampNeg 0, b6, ph_dd o t b7, b8, ph_dd o t b9, b10, b11, b12)) :
    ∀ (n : Nat) (x : Int32) (f : Int32) (a1 a2 a3 a4 a5 a6 a7 a8 a9 a10 a11 a12 : Nat → Int32), ph_l36 q n x (f, a1, a2, a3, a4, a5, a6, a7, a8, a9, a10, a11, a12) = some (g, b1, b2, b3, b4, b5, b6, b7, b8, b9, b10, b11, b12) → wX_restart_36 post q n x f a1 (ph_dd o t a2) a3 a4 a5 a6 (ph_dd o t a7) a8 (ph_dd o t a9) a10 a11 a12 := by
  intro n
  induction n with
  | zero => exact fun x f a1 a2 a3 a4 a5 a6 a7 a8 a9 a10 a11 a12 h => absurd h.symm (Option.some_ne_none _)
  | succ n ih =>
    intro x f a1 a2 a3 a4 a5 a6 a7 a8 a9 a10 a11 a12 h
    have i := ph_in_v c1
    rcases ph_if_mp h with ⟨c, h⟩ | ⟨c, h⟩
    · cases h
      exact br_t (of_decide_eq_true c) (And.intro i (nm_e (And.intro i (nm_e ⟨1, And.intro i (br_t c2 (And.intro i (nm_e hp)))⟩))))
    · obtain ⟨⟨k, d1, d2, d3, d4, d5, d6, d7, d8, d9, d10, d11, d12⟩, h1, h2⟩ := ph_bd h
      exact br_f (of_decide_eq_false c) (ph_s_assign ph_dl_0 h1 (nm_e (ih _ _ _ _ _ _ _ _ _ _ _ _ _ _ h2)))
theorem ph_s_l12 {o t : Int32} {post : Int32 → St2 → Prop} {q : Int32} {g : Int32} {b1 b2 b3 b4 b5 b6 b7 b8 b9 b10 b11 b12 : Nat → Int32} (K : ∃ n : Nat, wX_restart_36 post q n 0 g b1 (ph_dd o t b2) b3 b4 b5 b6 (ph_dd o t b7) b8 (ph_dd o t b9) b10 b11 b12) :
    ∀ (n : Nat) (x : Int32) (f : Int32) (a1 a2 a3 a4 a5 a6 a7 a8 a9 a10 a11 a12 : Nat → Int32), ph_l12 q n x (f, a1, a2, a3, a4, a5, a6, a7, a8, a9, a10, a11, a12) = some (g, b1, b2, b3, b4, b5, b6, b7, b8, b9, b10, b11, b12) → wX_restart_12 post q n x f a1 (ph_dd o t a2) a3 a4 a5 a6 (ph_dd o t a7) a8 (ph_dd o t a9) a10 a11 a12 := by
  intro n
  induction n with
  | zero => exact fun x f a1 a2 a3 a4 a5 a6 a7 a8 a9 a10 a11 a12 h => absurd h.symm (Option.some_ne_none _)
  | succ n ih =>
    intro x f a1 a2 a3 a4 a5 a6 a7 a8 a9 a10 a11 a12 h
    rcases ph_if_mp h with ⟨c, h⟩ | ⟨c, h⟩
    · cases h
      exact br_t (of_decide_eq_true c) K
    · obtain ⟨⟨k, d1, d2, d3, d4, d5, d6, d7, d8, d9, d10, d11, d12⟩, h1, h2⟩ := ph_bd h
      exact br_f (of_decide_eq_false c) (ph_s_assign ph_dl_0 h1 (nm_e (ih _ _ _ _ _ _ _ _ _ _ _ _ _ _ h2)))
theorem ph_s_rest {o t : Int32} {post : Int32 → St2 → Prop} {u u' : St2} {q : Int32} (h : ph_rest u q = some u') (hp : post 0 (ph_dc o t u')) : wpX_restart post (ph_dc o t u) q := by
  obtain ⟨f, a1, a2, a3, a4, a5, a6, a7, a8, a9, a10, a11, a12⟩ := u
  obtain ⟨c1, h⟩ := ph_ck_mp h
  obtain ⟨⟨k, d1, d2, d3, d4, d5, d6, d7, d8, d9, d10, d11, d12⟩, h1, h⟩ := ph_bd h
  obtain ⟨⟨g, b1, b2, b3, b4, b5, b6, b7, b8, b9, b10, b11, b12⟩, h2, h⟩ := ph_bd h
  obtain ⟨c2, h⟩ := ph_ck_mp h
  obtain ⟨c3, h⟩ := ph_ck_mp h
  cases h
  show wpX_restart post (f, a1, ph_dd o t a2, a3, a4, a5, a6, ph_dd o t a7, a8, ph_dd o t a9, a10, a11, a12) q
  unfold wpX_restart
  exact ph_s_fits c1 (br_f ph_10 ⟨5, ph_s_l12 ⟨4, ph_s_l36 c2 (of_decide_eq_true c3) hp 4 _ _ _ _ _ _ _ _ _ _ _ _ _ _ h2⟩ 5 _ _ _ _ _ _ _ _ _ _ _ _ _ _ h1⟩)
theorem ph_s_blobs {o t : Int32} {post : Int32 → Prop} {u : St2} (h : ph_noblob u = true) (hp : post 0) : wpX_blobs post (ph_dc o t u) := by
  obtain ⟨f, a1, a2, a3, a4, a5, a6, a7, a8, a9, a10, a11, a12⟩ := u
  obtain ⟨h, h5⟩ := (Bool.and_eq_true_iff).mp h
  obtain ⟨h, h4⟩ := (Bool.and_eq_true_iff).mp h
  obtain ⟨h, h3⟩ := (Bool.and_eq_true_iff).mp h
  obtain ⟨h, h2⟩ := (Bool.and_eq_true_iff).mp h
  obtain ⟨h0, h1⟩ := (Bool.and_eq_true_iff).mp h
  have st : ∀ (n i : Nat), i < 6 → a11 i ≤ 0 → wX_keptBlobs_4 (fun r => post r) f a1 (ph_dd o t a2) a3 a4 a5 a6 (ph_dd o t a7) a8 (ph_dd o t a9) a10 a11 a12 n 0 (nI (i + 1)) → wX_keptBlobs_4 (fun r => post r) f a1 (ph_dd o t a2) a3 a4 a5 a6 (ph_dd o t a7) a8 (ph_dd o t a9) a10 a11 a12 (n + 1) 0 (nI i) := by
    intro n i hi ha hw
    have e : (nI i).toNatClampNeg = i := nI_clamp (by omega)
    exact br_f (nI_ge (b := 6) hi (by decide)) (And.intro (vp_in_nI hi (by decide)) (br_t (by rw [e]; exact ha) (nm_r (nI_1 i) hw)))
  have en : wX_keptBlobs_4 (fun r => post r) f a1 (ph_dd o t a2) a3 a4 a5 a6 (ph_dd o t a7) a8 (ph_dd o t a9) a10 a11 a12 1 0 (nI 6) := br_t (by decide) hp
  show wpX_blobs post (f, a1, ph_dd o t a2, a3, a4, a5, a6, ph_dd o t a7, a8, ph_dd o t a9, a10, a11, a12)
  unfold wpX_blobs
  exact ⟨7, st 6 0 (by decide) (of_decide_eq_true h0) (st 5 1 (by decide) (of_decide_eq_true h1) (st 4 2 (by decide) (of_decide_eq_true h2) (st 3 3 (by decide) (of_decide_eq_true h3) (st 2 4 (by decide) (of_decide_eq_true h4) (st 1 5 (by decide) (of_decide_eq_true h5) en)))))⟩
theorem ph_s_init {post : St2 → Prop} (hp : post ph_s0) : wpX_init post 12 677 0 := by
  have L : ∃ n : Nat, wX_init_99 post 12 677 12 677 0 n (nI 0) (fun _ => 0) (fun _ => 0) (fun _ => 0) (fun _ => 0) (fun _ => 0) (fun _ => 0) (fun _ => 0) (fun _ => 0) (fun _ => 0) (fun j => if j < 0 then -1 else 0) (fun _ => 0) (fun _ => 0) := by
    refine pk_loop (fun n i s => wX_init_99 post 12 677 12 677 0 n (nI i) (fun _ => 0) (fun _ => 0) (fun _ => 0) (fun _ => 0) (fun _ => 0) (fun _ => 0) (fun _ => 0) (fun _ => 0) (fun _ => 0) s (fun _ => 0) (fun _ => 0)) (fun i s => s = fun j => if j < i then -1 else 0) 120 0 _ (by omega) rfl (fun n s hs => ?_) (fun n i s hi hs hw => ?_)
    · rw [hs]
      exact br_t (by decide) hp
    · have e : (nI i).toNatClampNeg = i := nI_clamp (by omega)
      refine br_f (nI_ge (b := 120) hi (by decide)) (And.intro (vp_in_nI hi (by decide)) (nm_e (nm_r (nI_1 i) (hw _ ?_))))
      rw [hs, e]
      funext j
      unfold upd
      by_cases z : j = i
      · rw [if_pos z, if_pos (by omega)]
      · rw [if_neg z]
        dsimp only
        by_cases y : j < i
        · rw [if_pos y, if_pos (by omega)]
        · rw [if_neg y, if_neg (by omega)]
  have e0 : (fun j : Nat => if j < 0 then (-1 : Int32) else 0) = fun _ => 0 := by
    funext j
    exact if_neg (Nat.not_lt_zero j)
  rw [e0] at L
  exact ⟨by decide, by decide, by decide, by decide, by decide, by decide, by decide, by decide, by decide, by decide, by decide, by decide, by decide, by decide, by decide, by decide, by decide, by decide, by decide, by decide, by decide, by decide, by decide, by decide, L⟩
end
section
theorem ph_w463 {o t : Int32} {post : Int32 → St0 → Prop} {mc ms kc ks : Nat} {q r : Int32} {f : Int32} {a1 a2 a3 a4 a5 a6 a7 a8 a9 a10 a11 a12 : Nat → Int32} {u' : St2} (h : ph_runE (f, a1, a2, a3, a4, a5, a6, a7, a8, a9, a10, a11, a12) q r = some u') (hp : post 1 ()) (z : Int32) :
    wL_lawOf_463 post mc ms q r ((r + 1) &&& 3) z z kc ks f a1 (ph_dd o t a2) a3 a4 a5 a6 (ph_dd o t a7) a8 (ph_dd o t a9) a10 a11 a12 := by
  obtain ⟨c1, h⟩ := ph_ck_mp h
  obtain ⟨c2, h⟩ := ph_ck_mp h
  obtain ⟨c3, h⟩ := ph_ck_mp h
  obtain ⟨c4, h⟩ := ph_ck_mp h
  obtain ⟨⟨g, b1, b2, b3, b4, b5, b6, b7, b8, b9, b10, b11, b12⟩, h1, h⟩ := ph_bd h
  obtain ⟨c5, h⟩ := ph_ck_mp h
  obtain ⟨⟨k, d1, d2, d3, d4, d5, d6, d7, d8, d9, d10, d11, d12⟩, h2, h⟩ := ph_bd h
  obtain ⟨⟨l, e1, e2, e3, e4, e5, e6, e7, e8, e9, e10, e11, e12⟩, h3, h⟩ := ph_bd h
  obtain ⟨c6, h⟩ := ph_ck_mp h
  obtain ⟨⟨w0, w1, w2, w3, w4, w5, w6, w7, w8, w9, w10, w11, w12⟩, h4, h⟩ := ph_bd h
  obtain ⟨c7, h⟩ := ph_ck_mp h
  obtain ⟨c8, h⟩ := ph_ck_mp h
  refine br_t rfl (ph_s_pairs (u := (f, a1, a2, a3, a4, a5, a6, a7, a8, a9, a10, a11, a12)) c2 c3 (br_t (of_decide_eq_true c4) ?_))
  refine ph_s_collect h1 (br_t (of_decide_eq_true c5) ?_)
  refine ph_s_nil h2 (br_t rfl ?_)
  refine ph_s_collect h3 (br_t (of_decide_eq_true c6) ?_)
  refine ph_s_rest (u := (l, e1, e2, e3, e4, e5, e6, e7, e8, e9, e10, e11, e12)) h4 (br_t rfl ?_)
  exact ph_s_kind (u := (w0, w1, w2, w3, w4, w5, w6, w7, w8, w9, w10, w11, w12)) c1 (br_t (of_decide_eq_true c7) (ph_s_blobs (u := (w0, w1, w2, w3, w4, w5, w6, w7, w8, w9, w10, w11, w12)) c8 (br_t rfl hp)))
theorem ph_w263 {o t : Int32} {post : Int32 → St0 → Prop} {mc ms kc ks : Nat} {q r : Int32} {f : Int32} {a1 a2 a3 a4 a5 a6 a7 a8 a9 a10 a11 a12 : Nat → Int32} {v u' : St2} (h : ph_runD (f, a1, a2, a3, a4, a5, a6, a7, a8, a9, a10, a11, a12) q r = some v) (hE : ph_runE v q r = some u') (hp : post 1 ()) :
    wL_lawOf_263 post mc ms o t q r kc ks f a1 (ph_dd o t a2) a3 a4 a5 a6 (ph_dd o t a7) a8 (ph_dd o t a9) a10 a11 a12 := by
  obtain ⟨c1, h⟩ := ph_ck_mp h
  obtain ⟨c2, h⟩ := ph_ck_mp h
  obtain ⟨c3, h⟩ := ph_ck_mp h
  obtain ⟨c4, h⟩ := ph_ck_mp h
  obtain ⟨⟨g, b1, b2, b3, b4, b5, b6, b7, b8, b9, b10, b11, b12⟩, h1, h⟩ := ph_bd h
  obtain ⟨⟨k, d1, d2, d3, d4, d5, d6, d7, d8, d9, d10, d11, d12⟩, h2, h⟩ := ph_bd h
  obtain ⟨c5, h⟩ := ph_ck_mp h
  obtain ⟨c6, h⟩ := ph_ck_mp h
  obtain ⟨c7, h⟩ := ph_ck_mp h
  obtain ⟨c8, h⟩ := ph_ck_mp h
  obtain ⟨c9, h⟩ := ph_ck_mp h
  obtain ⟨c10, h⟩ := ph_ck_mp h
  obtain ⟨c11, h⟩ := ph_ck_mp h
  obtain ⟨⟨l, e1, e2, e3, e4, e5, e6, e7, e8, e9, e10, e11, e12⟩, h3, h⟩ := ph_bd h
  obtain ⟨⟨w0, w1, w2, w3, w4, w5, w6, w7, w8, w9, w10, w11, w12⟩, h4, h⟩ := ph_bd h
  obtain ⟨c12, h⟩ := ph_ck_mp h
  obtain ⟨c13, h⟩ := ph_ck_mp h
  obtain ⟨c14, h⟩ := ph_ck_mp h
  obtain ⟨c15, h⟩ := ph_ck_mp h
  cases h
  have k1 : ph_kind (w0, w1, w2, w3, w4, w5, w6, w7, w8, w9, w10, w11, w12) q r = 1 := of_decide_eq_true c12
  have k2 : ph_kind (w0, w1, w2, w3, w4, w5, w6, w7, w8, w9, w10, w11, w12) q ((r + 2) &&& 3) = 1 := of_decide_eq_true c13
  have ev1 : ph_val (w0, w1, w2, w3, w4, w5, w6, w7, w8, w9, w10, w11, w12) q r = 1000 := of_decide_eq_true c14
  have ev2 : ph_val (w0, w1, w2, w3, w4, w5, w6, w7, w8, w9, w10, w11, w12) q ((r + 2) &&& 3) = 1001 := of_decide_eq_true c15
  have v1 : ph_dl o t (ph_val (w0, w1, w2, w3, w4, w5, w6, w7, w8, w9, w10, w11, w12) q r) = o := by rw [ev1, ph_dl_o]
  have v2 : ph_dl o t (ph_val (w0, w1, w2, w3, w4, w5, w6, w7, w8, w9, w10, w11, w12) q ((r + 2) &&& 3)) = t := by rw [ev2, ph_dl_t]
  have n1 : ¬ ph_kind (w0, w1, w2, w3, w4, w5, w6, w7, w8, w9, w10, w11, w12) q r = 2 := by
    rw [k1]
    decide
  have n2 : ¬ ph_kind (w0, w1, w2, w3, w4, w5, w6, w7, w8, w9, w10, w11, w12) q ((r + 2) &&& 3) = 2 := by
    rw [k2]
    decide
  have ne : ¬ ph_dl o t (ph_val (k, d1, d2, d3, d4, d5, d6, d7, d8, d9, d10, d11, d12) q r) = ph_dl o t (ph_val (k, d1, d2, d3, d4, d5, d6, d7, d8, d9, d10, d11, d12) q ((r + 1) &&& 3)) := by
    rw [ph_dl_inb c8, ph_dl_inb c9]
    exact ph_nd c10
  refine nm_e (nm_e ?_)
  refine ph_s_kind (u := (f, a1, a2, a3, a4, a5, a6, a7, a8, a9, a10, a11, a12)) c1 (br_t (of_decide_eq_true c4) ?_)
  refine ph_s_part (u := (f, a1, a2, a3, a4, a5, a6, a7, a8, a9, a10, a11, a12)) h1 (br_t rfl ?_)
  refine ph_s_part (u := (g, b1, b2, b3, b4, b5, b6, b7, b8, b9, b10, b11, b12)) h2 (br_t rfl ?_)
  refine ph_s_same (u := (k, d1, d2, d3, d4, d5, d6, d7, d8, d9, d10, d11, d12)) c2 c3 (of_decide_eq_true c5) (br_t (congrArg (ph_dl o t) (of_decide_eq_true c6)) (br_t rfl ?_))
  refine ph_s_same (u := (k, d1, d2, d3, d4, d5, d6, d7, d8, d9, d10, d11, d12)) c1 c2 (of_decide_eq_true c7) (br_f ne (br_t rfl ?_))
  refine ph_s_value2 (u := (k, d1, d2, d3, d4, d5, d6, d7, d8, d9, d10, d11, d12)) c1 (of_decide_eq_true c11) (br_t rfl ?_)
  refine ph_s_part (u := (k, d1, d2, d3, d4, d5, d6, d7, d8, d9, d10, d11, d12)) h3 (br_t rfl ?_)
  refine ph_s_part (u := (l, e1, e2, e3, e4, e5, e6, e7, e8, e9, e10, e11, e12)) h4 (br_t rfl ?_)
  refine ph_s_kind (u := (w0, w1, w2, w3, w4, w5, w6, w7, w8, w9, w10, w11, w12)) c1 (br_t k1 ?_)
  refine ph_s_value (u := (w0, w1, w2, w3, w4, w5, w6, w7, w8, w9, w10, w11, w12)) c1 n1 (br_t v1 ?_)
  refine ph_s_value (u := (w0, w1, w2, w3, w4, w5, w6, w7, w8, w9, w10, w11, w12)) c3 n2 (br_t v2 ?_)
  refine ph_s_same (u := (w0, w1, w2, w3, w4, w5, w6, w7, w8, w9, w10, w11, w12)) c1 c3 (k1.trans k2.symm) ?_
  rw [v1, v2]
  exact br_c (fun e => br_t e (ph_w463 hE hp 1)) (fun e => br_f e (ph_w463 hE hp 0))
theorem ph_w201 {o t : Int32} {post : Int32 → St0 → Prop} {mc ms kc ks : Nat} {q d : Int32} {f : Int32} {a1 a2 a3 a4 a5 a6 a7 a8 a9 a10 a11 a12 : Nat → Int32} {w v u' : St2} (hq0 : ¬ q < 0) (hq : ¬ 2 < q) (hd : d < 0 ∨ 3 < d)
    (hC : ph_runC (f, a1, a2, a3, a4, a5, a6, a7, a8, a9, a10, a11, a12) q 3 = some w) (hD : ph_runD w q 3 = some v) (hE : ph_runE v q 3 = some u') (hp : post 1 ()) : wL_lawOf_201 post mc ms o t d q kc ks f a1 (ph_dd o t a2) a3 a4 a5 a6 (ph_dd o t a7) a8 (ph_dd o t a9) a10 a11 a12 := by
  obtain ⟨⟨g, b1, b2, b3, b4, b5, b6, b7, b8, b9, b10, b11, b12⟩, h1, hC⟩ := ph_bd hC
  obtain ⟨c1, hC⟩ := ph_ck_mp hC
  obtain ⟨c2, hC⟩ := ph_ck_mp hC
  obtain ⟨c3, hC⟩ := ph_ck_mp hC
  cases hC
  unfold wL_lawOf_201 wL_lawOf_202
  refine ph_s_recvBad hq0 hq hd (br_t rfl (br_t rfl ?_))
  exact ph_s_recv h1 (br_t rfl (br_t rfl (br_t rfl (ph_w263 hD hE hp))))
theorem ph_w202 {o t : Int32} {post : Int32 → St0 → Prop} {mc ms kc ks : Nat} {q d : Int32} {f : Int32} {a1 a2 a3 a4 a5 a6 a7 a8 a9 a10 a11 a12 : Nat → Int32} {w v u' : St2}
    (hC : ph_runC (f, a1, a2, a3, a4, a5, a6, a7, a8, a9, a10, a11, a12) q d = some w) (hD : ph_runD w q d = some v) (hE : ph_runE v q d = some u') (hp : post 1 ()) : wL_lawOf_202 post mc ms o t d q 1 kc ks f a1 (ph_dd o t a2) a3 a4 a5 a6 (ph_dd o t a7) a8 (ph_dd o t a9) a10 a11 a12 := by
  obtain ⟨⟨g, b1, b2, b3, b4, b5, b6, b7, b8, b9, b10, b11, b12⟩, h1, hC⟩ := ph_bd hC
  obtain ⟨c1, hC⟩ := ph_ck_mp hC
  obtain ⟨c2, hC⟩ := ph_ck_mp hC
  obtain ⟨c3, hC⟩ := ph_ck_mp hC
  cases hC
  unfold wL_lawOf_202
  refine ph_s_recv h1 (br_f ph_10 (br_t rfl ?_))
  exact ph_s_recvNo (u := (g, b1, b2, b3, b4, b5, b6, b7, b8, b9, b10, b11, b12)) c1 c2 (of_decide_eq_true c3) (br_f ph_10 (br_t rfl (br_f ph_10 (ph_w263 hD hE hp))))
theorem ph_dc_s0 {o t : Int32} : ph_dc o t ph_s0 = ph_s0 := by
  have e : ph_dd o t (fun _ => 0) = fun _ => 0 := by
    funext j
    exact ph_dl_0.symm
  unfold ph_s0 ph_dc
  dsimp only
  rw [e]
theorem ph_wlaw {o t d p q x y : Int32} {post : Int32 → St0 → Prop} {u v : St2} (ex : (x &&& 255) - (x &&& 255) / 3 * 3 = p) (ey : (y &&& 255) - (y &&& 255) / 3 * 3 = q)
    (hA : ph_runA p = some u) (hB : ph_runB u p q = some v)
    (K : ∀ (kc ks : Nat) (r0 r1 : Int32) (g : Int32) (b1 b2 b3 b4 b5 b6 b7 b8 b9 b10 b11 b12 : Nat → Int32), v = (g, b1, b2, b3, b4, b5, b6, b7, b8, b9, b10, b11, b12) → r1 = r0 → wL_lawOf_181 post 13 690 o t d q r0 r1 kc ks g b1 (ph_dd o t b2) b3 b4 b5 b6 (ph_dd o t b7) b8 (ph_dd o t b9) b10 b11 b12) : wpL_lawOf post 13 690 () o t x y d := by
  obtain ⟨⟨f, a1, a2, a3, a4, a5, a6, a7, a8, a9, a10, a11, a12⟩, hs⟩ : ∃ u, u = ph_s0 := ⟨_, rfl⟩
  unfold ph_runA at hA
  rw [← hs] at hA
  obtain ⟨⟨g, b1, b2, b3, b4, b5, b6, b7, b8, b9, b10, b11, b12⟩, h1, hA⟩ := ph_bd hA
  obtain ⟨⟨k, d1, d2, d3, d4, d5, d6, d7, d8, d9, d10, d11, d12⟩, h2, hA⟩ := ph_bd hA
  obtain ⟨⟨l, e1, e2, e3, e4, e5, e6, e7, e8, e9, e10, e11, e12⟩, h3, hA⟩ := ph_bd hA
  obtain ⟨⟨w0, w1, w2, w3, w4, w5, w6, w7, w8, w9, w10, w11, w12⟩, h4, hA⟩ := ph_bd hA
  obtain ⟨c1, hA⟩ := ph_ck_mp hA
  obtain ⟨c2, hA⟩ := ph_ck_mp hA
  obtain ⟨c3, hA⟩ := ph_ck_mp hA
  cases hA
  obtain ⟨⟨y0, y1, y2, y3, y4, y5, y6, y7, y8, y9, y10, y11, y12⟩, h5, hB⟩ := ph_bd hB
  obtain ⟨c4, hB⟩ := ph_ck_mp hB
  obtain ⟨c5, hB⟩ := ph_ck_mp hB
  obtain ⟨c6, hB⟩ := ph_ck_mp hB
  obtain ⟨c7, hB⟩ := ph_ck_mp hB
  obtain ⟨c8, hB⟩ := ph_ck_mp hB
  obtain ⟨c9, hB⟩ := ph_ck_mp hB
  obtain ⟨⟨z0, z1, z2, z3, z4, z5, z6, z7, z8, z9, z10, z11, z12⟩, h6, hB⟩ := ph_bd hB
  obtain ⟨v', h7, hB⟩ := ph_bd hB
  obtain ⟨c10, hB⟩ := ph_ck_mp hB
  cases hB
  obtain ⟨n, n1, n2, n3, n4, n5, n6, n7, n8, n9, n10, n11, n12⟩ := v
  have E8 : ph_used (y0, y1, y2, y3, y4, y5, y6, y7, y8, y9, y10, y11, y12) q = (if q = p then 4 else 2) := of_decide_eq_true c8
  have E9 : ph_used (y0, y1, y2, y3, y4, y5, y6, y7, y8, y9, y10, y11, y12) p = (if q = p then 4 else 2) := of_decide_eq_true c9
  have E10 := of_decide_eq_true c10
  refine And.intro (by decide) (And.intro (by decide) ⟨12, 677, by decide, by decide, ph_s_init ?_⟩)
  rw [← ph_dc_s0 (o := o) (t := t), ← hs]
  refine And.intro (by decide) (nm_r ex (And.intro (by decide) (nm_r ey ?_)))
  refine ph_s_number ph_dl_o.symm h1 (br_t rfl ?_)
  refine ph_s_number ph_dl_t.symm h2 (br_t rfl ?_)
  refine ph_s_pair h3 (br_t rfl ?_)
  refine ph_s_pair h4 (br_t rfl ?_)
  refine ph_s_pairs (u := (w0, w1, w2, w3, w4, w5, w6, w7, w8, w9, w10, w11, w12)) c1 c2 (br_t (of_decide_eq_true c3) ?_)
  refine ph_s_send h5 (br_t rfl ?_)
  refine ph_s_pairs (u := (y0, y1, y2, y3, y4, y5, y6, y7, y8, y9, y10, y11, y12)) c6 c7 ?_
  by_cases e : q = p
  · rw [if_pos e] at E8 E9 E10
    refine br_t e (br_t E8 ?_)
    refine ph_s_pairs (u := (y0, y1, y2, y3, y4, y5, y6, y7, y8, y9, y10, y11, y12)) c4 c5 (br_t e (br_t E9 ?_))
    refine ph_s_nil h6 (br_t rfl ?_)
    exact ph_s_collect h7 (br_t e (K _ _ _ _ _ _ _ _ _ _ _ _ _ _ _ _ _ rfl E10))
  · rw [if_neg e] at E8 E9 E10
    refine br_f e (br_t E8 ?_)
    refine ph_s_pairs (u := (y0, y1, y2, y3, y4, y5, y6, y7, y8, y9, y10, y11, y12)) c4 c5 (br_f e (br_t E9 ?_))
    refine ph_s_nil h6 (br_t rfl ?_)
    exact ph_s_collect h7 (br_f e (K _ _ _ _ _ _ _ _ _ _ _ _ _ _ _ _ _ rfl E10))
theorem ph_mod (x : Int32) : (x &&& 255) - (x &&& 255) / 3 * 3 ∈ ([0, 1, 2] : List Int32) := by
  obtain ⟨j, hj, e⟩ := pk_andE x (m := 255) 8 (by decide)
  rw [e]
  have h : nI j - nI j / 3 * 3 = nI (j % 3) := pk_rem (a := j) (d := 3) (by omega) (by decide) (by decide)
  rw [h]
  have z : j % 3 = 0 ∨ j % 3 = 1 ∨ j % 3 = 2 := by omega
  rcases z with z | z | z
  · rw [z]
    decide
  · rw [z]
    decide
  · rw [z]
    decide
theorem ph_reg {d : Int32} (h0 : ¬ d < 0) (h3 : ¬ 3 < d) : d ∈ ([0, 1, 2, 3] : List Int32) := by
  obtain ⟨j, hj, e⟩ := nI_of h0
  have h4 : j < 4 := by
    rcases Nat.lt_or_ge j 4 with z | z
    · exact z
    · exact absurd (show (3 : Int32) < d from by rw [e]; exact nI_lt (a := 3) (by omega) hj) h3
  have z : j = 0 ∨ j = 1 ∨ j = 2 ∨ j = 3 := by omega
  rcases z with z | z | z | z
  · rw [e, z]
    decide
  · rw [e, z]
    decide
  · rw [e, z]
    decide
  · rw [e, z]
    decide
theorem ph_pos : ∀ q ∈ ([0, 1, 2] : List Int32), ¬ q < 0 ∧ ¬ 2 < q := by decide
theorem ph_lawOf {o t x y d : Int32} {post : Int32 → St0 → Prop} (hp : post 1 ()) : wpL_lawOf post 13 690 () o t x y d := by
  have ha := ph_mod x
  have hb := ph_mod y
  have hq := ph_pos _ hb
  by_cases hd : d < 0 ∨ 3 < d
  · obtain ⟨u', h⟩ := ph_some_v (ph_eval _ ha _ hb 3 (by decide))
    obtain ⟨u, hA, h⟩ := ph_bd h
    obtain ⟨v, hB, h⟩ := ph_bd h
    obtain ⟨w, hC, h⟩ := ph_bd h
    obtain ⟨z, hD, hE⟩ := ph_bd h
    refine ph_wlaw rfl rfl hA hB ?_
    intro kc ks r0 r1 g b1 b2 b3 b4 b5 b6 b7 b8 b9 b10 b11 b12 hv hz
    rw [hv] at hC
    have Q : wL_lawOf_201 post 13 690 o t d _ kc ks g b1 (ph_dd o t b2) b3 b4 b5 b6 (ph_dd o t b7) b8 (ph_dd o t b9) b10 b11 b12 := ph_w201 hq.1 hq.2 hd hC hD hE hp
    refine br_t hz ?_
    by_cases c : d < 0
    · exact br_t c Q
    · rcases hd with g | g
      · exact absurd g c
      · exact br_f c (br_t g Q)
  · have d0 : ¬ d < 0 := fun g => hd (Or.inl g)
    have d3 : ¬ 3 < d := fun g => hd (Or.inr g)
    obtain ⟨u', h⟩ := ph_some_v (ph_eval _ ha _ hb d (ph_reg d0 d3))
    obtain ⟨u, hA, h⟩ := ph_bd h
    obtain ⟨v, hB, h⟩ := ph_bd h
    obtain ⟨w, hC, h⟩ := ph_bd h
    obtain ⟨z, hD, hE⟩ := ph_bd h
    refine ph_wlaw rfl rfl hA hB ?_
    intro kc ks r0 r1 g b1 b2 b3 b4 b5 b6 b7 b8 b9 b10 b11 b12 hv hz
    rw [hv] at hC
    exact br_t hz (br_f d0 (br_f d3 (ph_w202 hC hD hE hp)))
end
section
theorem ph_cell {post : Int32 → Prop} {L i : Nat} {xs : Nat → Int32} (hL : L ≤ 5) (hi : i < 5) (H : ∀ r, post r) : wpL_cellAt post L xs () (nI i) :=
  pk_le L i (fun _ => H 0) (fun z => And.intro (pk_in i L z) (H _))
theorem i_vc (xs : Nat → Int32) (L : Nat) (hL : L ≤ 5) : wpL_law (fun r => r = 1) L xs :=
  ph_cell (i := 0) hL (by decide) fun _ => ph_cell (i := 1) hL (by decide) fun _ => ph_cell (i := 2) hL (by decide) fun _ => ph_cell (i := 3) hL (by decide) fun _ => ph_cell (i := 4) hL (by decide) fun _ =>
    ⟨13, 690, by decide, by decide, ph_lawOf rfl⟩
end
