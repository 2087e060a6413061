section
/-! the model: a heap of contents (n of them, 64 bits each in E), roots, kept flags, the preferred side + 1 -/
def tq_en (E c : Nat) : Nat := (E >>> (64 * c)) % 18446744073709551616
def tq_w (E c : Nat) : Nat := tq_en E c % 1024
def tq_k (E c j : Nat) : Nat := (tq_en E c >>> (10 * j + 10)) % 1024
def tq_mk (w a b c d : Nat) : Nat := w + 1024 * a + 1048576 * b + 1073741824 * c + 1099511627776 * d
def tq_kw (w : Nat) : Nat := if w = 0 then 0 else if w = 1 then 2 else 1
def tq_kn (E c : Nat) : Nat := tq_kw (tq_w E c)
def tq_fd (E e : Nat) : Nat → Nat → Nat
  | 0, _ => 0
  | k + 1, c => if tq_en E c = e then c else tq_fd E e k (c + 1)
def tq_ct (n E e : Nat) : Nat × Nat × Nat := if tq_fd E e (n - 1) 1 = 0 then (n, n + 1, E + e <<< (64 * n)) else (tq_fd E e (n - 1) 1, n, E)
def tq_wi (n E f j c : Nat) : Nat × Nat × Nat := tq_ct n E (tq_mk 1 (if j = 0 then c else tq_k E f 0) (if j = 1 then c else tq_k E f 1) (if j = 2 then c else tq_k E f 2) (if j = 3 then c else tq_k E f 3))
def tq_lv (p : Nat) : Nat := if p < 4 then 1 else if p < 20 then 2 else 3
def tq_par (p : Nat) : Nat := if p < 20 then (p - 4) / 4 else 4 + (p - 20) / 4
def tq_nm (p j : Nat) : Nat := if p < 4 then p else if p < 20 then (if j = 0 then (p - 4) / 4 else p % 4) else (if j = 0 then (p - 20) / 16 else if j = 1 then (p - 20) / 4 % 4 else p % 4)
def tq_wy (E r p : Nat) : Nat → Nat
  | 0 => r
  | j + 1 => tq_k E (tq_wy E r p j) (tq_nm p j)
def tq_at (E r p : Nat) : Nat := tq_wy E r p (tq_lv p)
def tq_sl (E0 r p : Nat) : Nat → Nat → Nat → Nat → Nat × Nat × Nat
  | 0, c, n, E => (c, n, E)
  | k + 1, c, n, E => tq_sl E0 r p k (tq_wi n E (tq_wy E0 r p k) (tq_nm p k) c).1 (tq_wi n E (tq_wy E0 r p k) (tq_nm p k) c).2.1 (tq_wi n E (tq_wy E0 r p k) (tq_nm p k) c).2.2
def tq_sc (n E r p c : Nat) : Nat × Nat × Nat := tq_sl E r p (tq_lv p) c n E
abbrev tq_M : Type := Nat × Nat × List Nat × List Bool × Nat
def tq_rt (m : tq_M) (t : Nat) : Nat := m.2.2.1.getD t 0
def tq_a (m : tq_M) (t p : Nat) : Nat := tq_at m.2.1 (tq_rt m t) p
def tq_kc (m : tq_M) (c : Nat) : Nat := tq_kn m.2.1 c
def tq_set (m : tq_M) (t p c : Nat) : tq_M := ((tq_sc m.1 m.2.1 (tq_rt m t) p c).2.1, (tq_sc m.1 m.2.1 (tq_rt m t) p c).2.2, m.2.2.1.set t (tq_sc m.1 m.2.1 (tq_rt m t) p c).1, m.2.2.2.1, m.2.2.2.2)
def tq_ctM (m : tq_M) (e : Nat) : tq_M := ((tq_ct m.1 m.2.1 e).2.1, (tq_ct m.1 m.2.1 e).2.2, m.2.2)
def tq_ctI (m : tq_M) (e : Nat) : Nat := (tq_ct m.1 m.2.1 e).1
def tq_hpar (m : tq_M) (t p : Nat) : Bool := if p < 4 then true else decide (tq_kc m (tq_a m t (tq_par p)) = 2)
/-- weights -/
def tq_w1 (E c k n : Nat) : Nat := if k % 4 = 0 then (if tq_k E c (k / 4) = 0 then n else n + 1) else n
def tq_w2 (E c k n : Nat) : Nat := if tq_k E (tq_k E c (k / 4)) (k % 4) = 0 then tq_w1 E c k n else tq_w1 E c k n + 1
def tq_wl (E c : Nat) : Nat → Nat → Nat → Nat
  | 0, _, n => n
  | f + 1, k, n => tq_wl E c f (k + 1) (tq_w2 E c k n)
def tq_wt (E c : Nat) : Nat := if c = 0 then 0 else tq_wl E c 16 0 1
def tq_tl (E r : Nat) : Nat → Nat → Nat → Nat
  | 0, _, s => s
  | f + 1, j, s => tq_tl E r f (j + 1) (s + tq_wt E (tq_k E r j))
def tq_tw (E r : Nat) : Nat := tq_tl E r 4 0 0
/-- ways up: a path + 1, 0 for none -/
def tq_up (q : Nat) : Nat := if q < 5 then 0 else tq_par (q - 1) + 1
def tq_si (p : Nat) : Nat → Nat → Bool
  | 0, q => decide (q = p + 1)
  | f + 1, q => if q = 0 then false else if q = p + 1 then true else tq_si p f (tq_up q)
def tq_hs (E c : Nat) : Bool := decide (tq_k E c 0 ≠ 0 ∨ tq_k E c 1 ≠ 0 ∨ tq_k E c 2 ≠ 0 ∨ tq_k E c 3 ≠ 0)
def tq_hl (E c : Nat) : Nat → Nat → Nat → Nat
  | 0, _, h => h
  | f + 1, j, h => tq_hl E c f (j + 1) (if tq_hs E (tq_k E c j) then 3 else h)
def tq_ht (E c : Nat) : Nat := tq_hl E c 4 0 (if tq_hs E c then 2 else 1)
def tq_ref (s p q : Nat) (m : tq_M) : Int :=
  if tq_a m s p = 0 then -1000000004 else if tq_hpar m s q = false then -1000000002 else if tq_a m s q ≠ 0 then -1000000003
  else if tq_si p 3 (q + 1) = true then -1000000001 else if tq_lv q + tq_ht m.2.1 (tq_a m s p) ≤ 4 then 0 else -1000000001
/-- the ops -/
abbrev tq_O : Type := tq_M → Option (Int × tq_M)
def tq_write (s p k : Nat) : tq_O := fun m =>
  if s < 2 ∧ p < 84 ∧ k < 8 ∧ m.1 ≤ 900 then
    some (if tq_hpar m s p = false then (-1000000002, m) else if tq_kc m (tq_a m s p) = 2 then (-1000000003, m)
      else (Int.ofNat (tq_kc m (tq_a m s p)), tq_set (tq_ctM m (tq_mk (k + 2) 0 0 0 0)) s p (tq_ctI m (tq_mk (k + 2) 0 0 0 0))))
  else none
def tq_folder (s p : Nat) : tq_O := fun m =>
  if s < 2 ∧ p < 84 ∧ m.1 ≤ 900 then
    some (if tq_hpar m s p = false then (-1000000002, m) else if tq_a m s p ≠ 0 then (-1000000003, m)
      else (0, tq_set (tq_ctM m (tq_mk 1 0 0 0 0)) s p (tq_ctI m (tq_mk 1 0 0 0 0))))
  else none
def tq_remove (s p : Nat) : tq_O := fun m =>
  if s < 2 ∧ p < 84 ∧ m.1 ≤ 900 then some (if tq_a m s p = 0 then (-1000000004, m) else (Int.ofNat (tq_wt m.2.1 (tq_a m s p)), tq_set m s p 0)) else none
def tq_move (s p q : Nat) : tq_O := fun m =>
  if s < 2 ∧ p < 84 ∧ q < 84 ∧ m.1 ≤ 900 then some (if tq_ref s p q m = 0 then (0, tq_set (tq_set m s p 0) s q (tq_a m s p)) else (tq_ref s p q m, m)) else none
def tq_copy (s p q : Nat) : tq_O := fun m =>
  if s < 2 ∧ p < 84 ∧ q < 84 ∧ m.1 ≤ 900 then some (if tq_ref s p q m = 0 then (0, tq_set m s q (tq_a m s p)) else (tq_ref s p q m, m)) else none
def tq_kind (s p : Nat) : tq_O := fun m => if s < 2 ∧ p < 84 then some (Int.ofNat (tq_kc m (tq_a m s p)), m) else none
def tq_number (s p : Nat) : tq_O := fun m => if s < 2 ∧ p < 84 then some (if tq_kc m (tq_a m s p) = 1 then Int.ofNat (tq_w m.2.1 (tq_a m s p) - 2) else -1000000004, m) else none
def tq_last (p : Nat) : tq_O := fun m => if p < 84 then some (Int.ofNat (tq_kc m (tq_a m 2 p)), m) else none
def tq_size (s : Nat) : tq_O := fun m => if s < 2 then some (Int.ofNat (tq_tw m.2.1 (tq_rt m s)), m) else none
def tq_df (m : tq_M) (s p n : Nat) : Nat := if tq_a m s p = tq_a m 2 p then n else if tq_kc m (tq_a m s p) = 2 ∧ tq_kc m (tq_a m 2 p) = 2 then n else n + 1
def tq_cl (m : tq_M) (s : Nat) : Nat → Nat → Nat → Nat
  | 0, _, n => n
  | f + 1, p, n => tq_cl m s f (p + 1) (tq_df m s p n)
def tq_changed (s : Nat) : tq_O := fun m => if s < 2 then some (Int.ofNat (tq_cl m s 84 0 0), m) else none
def tq_tn (m : tq_M) (s p c q n : Nat) : Nat := if q = p then n else if tq_a m s q = c then n + 1 else n
def tq_nl (m : tq_M) (s p c : Nat) : Nat → Nat → Nat → Nat
  | 0, _, n => n
  | f + 1, q, n => tq_nl m s p c f (q + 1) (tq_tn m s p c q n)
def tq_twins (s p : Nat) : tq_O := fun m => if s < 2 ∧ p < 84 then some (if tq_a m s p = 0 then 0 else Int.ofNat (tq_nl m s p (tq_a m s p) 84 0 0), m) else none
def tq_same : tq_O := fun m => some (if tq_rt m 0 = tq_rt m 1 then 1 else 0, m)
/-- stepping: the model, the pile (its top first), actions, conflicts, stopped -/
abbrev tq_Z : Type := tq_M × List Nat × List (Nat × Nat) × List Nat × Bool
def tq_act (al p sd c : Nat) (z : tq_Z) : tq_Z :=
  if z.2.2.1.length = al then (z.1, z.2.1, z.2.2.1, z.2.2.2.1, true)
  else (tq_set (tq_set z.1 sd p c) 2 p c, z.2.1, z.2.2.1 ++ [(p, sd)], z.2.2.2.1, z.2.2.2.2)
def tq_pin (p : Nat) (l : List Nat) : List Nat :=
  if p < 4 then (4 + 4 * p) :: (4 + 4 * p + 1) :: (4 + 4 * p + 2) :: (4 + 4 * p + 3) :: l
  else if p < 20 then (20 + 4 * (p - 4)) :: (20 + 4 * (p - 4) + 1) :: (20 + 4 * (p - 4) + 2) :: (20 + 4 * (p - 4) + 3) :: l
  else l
def tq_sf (p la : Nat) (z : tq_Z) : tq_Z :=
  (if tq_kc z.1 la = 2 then z.1 else tq_set (tq_ctM z.1 (tq_mk 1 0 0 0 0)) 2 p (tq_ctI z.1 (tq_mk 1 0 0 0 0)), tq_pin p z.2.1, z.2.2)
def tq_mc (al p a b : Nat) (z : tq_Z) : tq_Z :=
  if z.1.2.2.2.2 = 1 then tq_act al p 1 a (z.1, z.2.1, z.2.2.1, z.2.2.2.1 ++ [p], z.2.2.2.2)
  else if z.1.2.2.2.2 = 2 then tq_act al p 0 b (z.1, z.2.1, z.2.2.1, z.2.2.2.1 ++ [p], z.2.2.2.2)
  else (z.1, z.2.1, z.2.2.1, z.2.2.2.1 ++ [p], z.2.2.2.2)
def tq_sp (al p : Nat) (z : tq_Z) : tq_Z :=
  if tq_a z.1 0 p = tq_a z.1 1 p then (if tq_a z.1 2 p = tq_a z.1 0 p then z else (tq_set z.1 2 p (tq_a z.1 0 p), z.2))
  else if tq_kc z.1 (tq_a z.1 0 p) = 2 ∧ tq_kc z.1 (tq_a z.1 1 p) = 2 then tq_sf p (tq_a z.1 2 p) z
  else if tq_a z.1 0 p = tq_a z.1 2 p then tq_act al p 0 (tq_a z.1 1 p) z
  else if tq_a z.1 1 p = tq_a z.1 2 p then tq_act al p 1 (tq_a z.1 0 p) z
  else tq_mc al p (tq_a z.1 0 p) (tq_a z.1 1 p) z
def tq_lp (al : Nat) : Nat → tq_Z → Option tq_Z
  | 0, z => some z
  | k + 1, z => match z.2.1 with
    | [] => some z
    | p :: ps => if z.2.2.2.2 = true then some z
      else if p < 84 ∧ ps.length ≤ 80 ∧ z.1.1 ≤ 900 ∧ z.2.2.1.length < 84 ∧ z.2.2.2.1.length < 84 then tq_lp al k (tq_sp al p (z.1, ps, z.2.2)) else none
def tq_all (al : Nat) (m : tq_M) : Option tq_Z := tq_lp al 84 (m, [0, 1, 2, 3], [], [], false)
def tq_cp (i j : Nat) (m : tq_M) : tq_M := (m.1, m.2.1, m.2.2.1.set j (tq_rt m i), m.2.2.2.1, m.2.2.2.2)
def tq_sv (m : tq_M) : tq_M := tq_cp 2 8 (tq_cp 1 7 (tq_cp 0 6 m))
def tq_ld (m : tq_M) : tq_M := tq_cp 8 2 (tq_cp 7 1 (tq_cp 6 0 m))
def tq_try (m : tq_M) : Option tq_Z := match tq_all 84 (tq_sv m) with
  | some z => if z.2.2.1.length ≤ 84 ∧ z.2.2.2.1.length ≤ 84 then some (tq_ld z.1, z.2) else none
  | none => none
def tq_actions : tq_O := fun m => (tq_try m).map (fun z => (Int.ofNat z.2.2.1.length, z.1))
def tq_conflicts : tq_O := fun m => (tq_try m).map (fun z => (Int.ofNat z.2.2.2.1.length, z.1))
def tq_action (i w : Nat) : tq_O := fun m => (tq_try m).map (fun z => (if i < z.2.2.1.length then Int.ofNat (if w = 0 then (z.2.2.1.getD i (0, 0)).1 else (z.2.2.1.getD i (0, 0)).2) else -1000000004, z.1))
def tq_conflict (i : Nat) : tq_O := fun m => (tq_try m).map (fun z => (if i < z.2.2.2.1.length then Int.ofNat (z.2.2.2.1.getD i 0) else -1000000004, z.1))
def tq_step (al : Nat) : tq_O := fun m => (tq_all al m).map (fun z => (Int.ofNat z.2.2.1.length, z.1))
def tq_prefer (P : Nat) : tq_O := fun m => if P ≤ 2 then some (0, (m.1, m.2.1, m.2.2.1, m.2.2.2.1, P)) else none
def tq_keep (s k : Nat) : tq_O := fun m => if s < 2 ∧ k < 3 then some (Int.ofNat (tq_tw m.2.1 (tq_rt m s)), (m.1, m.2.1, m.2.2.1.set (3 + k) (tq_rt m s), m.2.2.2.1.set k true, m.2.2.2.2)) else none
def tq_restore (s k : Nat) : tq_O := fun m => if s < 2 ∧ k < 3 then
    some (if m.2.2.2.1.getD k false = false then (-1000000004, m) else (Int.ofNat (tq_tw m.2.1 (tq_rt m (3 + k))), tq_cp (3 + k) s m)) else none
end
section
/-! running a list of ops against the answers wanted -/
def tq_run : List (tq_O × Int) → tq_M → Option tq_M
  | [], m => some m
  | x :: t, m => match x.1 m with
    | some y => if y.1 = x.2 then tq_run t y.2 else none
    | none => none
def tq_m0 : tq_M := (2, 18446744073709551616, [1, 1, 1, 1, 1, 1, 1, 1, 1], [false, false, false], 0)
def tq_fill (a b : Nat) : List (tq_O × Int) :=
  [(tq_write 0 (4 + 4 * a + b) 0, -1000000002), (tq_folder 0 a, 0), (tq_folder 0 a, -1000000003), (tq_write 0 a 0, -1000000003), (tq_folder 0 (4 + 4 * a + b), 0), (tq_kind 0 (4 + 4 * a + b), 2), (tq_number 0 (4 + 4 * a + b), -1000000004),
   (tq_write 0 (20 + 16 * a + 4 * b) 0, 0), (tq_write 0 (20 + 16 * a + 4 * b) 0, 1), (tq_size 0, 3),
   (tq_write 0 (20 + 16 * a + 4 * b + 1) 0, 0), (tq_write 0 (20 + 16 * a + 4 * b + 1) 0, 1), (tq_size 0, 4),
   (tq_write 0 (20 + 16 * a + 4 * b + 2) 0, 0), (tq_write 0 (20 + 16 * a + 4 * b + 2) 0, 1), (tq_size 0, 5),
   (tq_write 0 (20 + 16 * a + 4 * b + 3) 0, 0), (tq_write 0 (20 + 16 * a + 4 * b + 3) 0, 1), (tq_size 0, 6),
   (tq_twins 0 (20 + 16 * a + 4 * b), 3), (tq_twins 0 a, 0), (tq_remove 0 (4 + 4 * a + (b ^^^ 1)), -1000000004)]
def tq_steps1 (a b : Nat) : List (tq_O × Int) :=
  [(tq_actions, 1), (tq_action 0 0, Int.ofNat a), (tq_action 0 1, 1), (tq_conflicts, 0), (tq_changed 0, 6), (tq_changed 1, 0), (tq_step 0, 0), (tq_size 1, 0), (tq_step 84, 1), (tq_same, 1), (tq_size 1, 6),
   (tq_last (4 + 4 * a + b), 2), (tq_last (20 + 16 * a + 4 * b), 1), (tq_step 84, 0)]
def tq_steps2 (a b : Nat) : List (tq_O × Int) :=
  [(tq_write 0 (20 + 16 * a + 4 * b) 1, 1), (tq_remove 1 (20 + 16 * a + 4 * b + 1), 1), (tq_write 0 (20 + 16 * a + 4 * b + 2) 2, 1), (tq_write 1 (20 + 16 * a + 4 * b + 2) 3, 1), (tq_changed 0, 2), (tq_changed 1, 2), (tq_actions, 2),
   (tq_action 0 0, Int.ofNat (20 + 16 * a + 4 * b)), (tq_action 0 1, 1), (tq_action 1 0, Int.ofNat (20 + 16 * a + 4 * b + 1)), (tq_action 1 1, 0), (tq_action 2 0, -1000000004), (tq_conflicts, 1), (tq_conflict 0, Int.ofNat (20 + 16 * a + 4 * b + 2)), (tq_conflict 1, -1000000004)]
def tq_steps3 (a b : Nat) : List (tq_O × Int) :=
  [(tq_step 1, 1), (tq_number 1 (20 + 16 * a + 4 * b), 1), (tq_kind 0 (20 + 16 * a + 4 * b + 1), 1), (tq_step 84, 1), (tq_kind 0 (20 + 16 * a + 4 * b + 1), 0), (tq_same, 0), (tq_conflicts, 1), (tq_prefer 2, 0), (tq_actions, 1), (tq_step 84, 1),
   (tq_number 0 (20 + 16 * a + 4 * b + 2), 3), (tq_same, 1), (tq_conflicts, 0), (tq_size 0, 5)]
def tq_steps4 (a b : Nat) : List (tq_O × Int) :=
  [(tq_remove 0 (4 + 4 * a + b), 4), (tq_write 1 (20 + 16 * a + 4 * b) 5, 1), (tq_actions, 1), (tq_conflict 0, Int.ofNat (4 + 4 * a + b)), (tq_prefer 1, 0), (tq_action 0 1, 1), (tq_step 84, 1), (tq_size 1, 1), (tq_last (4 + 4 * a + b), 0), (tq_prefer 0, 0)]
def tq_moves1 (a b : Nat) : List (tq_O × Int) :=
  [(tq_folder 0 (4 + 4 * a + b), 0), (tq_write 0 (20 + 16 * a + 4 * b + 3) 0, 0), (tq_keep 0 1, 3), (tq_folder 0 (a ^^^ 1), 0), (tq_move 0 a (a ^^^ 1), -1000000003), (tq_move 0 a (4 + 4 * (a ^^^ 1)), -1000000001), (tq_copy 0 (4 + 4 * a + b) (4 + 4 * (a ^^^ 1) + 2), 0),
   (tq_kind 0 (20 + 4 * (4 * (a ^^^ 1) + 2) + 3), 1), (tq_twins 0 (4 + 4 * a + b), 1), (tq_size 0, 6), (tq_twins 0 (20 + 16 * a + 4 * b + 3), 1), (tq_copy 0 a ((4 + 4 * a + b) ^^^ 1), -1000000001), (tq_move 0 (4 + 4 * a + b) (20 + 16 * a + 4 * b + 2), -1000000001)]
def tq_moves2 (a b : Nat) : List (tq_O × Int) :=
  [(tq_copy 0 (20 + 16 * a + 4 * b + 3) (20 + 16 * a + 4 * b), 0), (tq_number 0 (20 + 16 * a + 4 * b), 0), (tq_move 0 (a ^^^ 1) (a ^^^ 2), 0), (tq_kind 0 (a ^^^ 1), 0), (tq_kind 0 (4 + 4 * (a ^^^ 2) + 2), 2), (tq_move 0 (a ^^^ 1) a, -1000000004), (tq_move 0 (4 + 4 * a + b) (4 + 4 * (a ^^^ 1)), -1000000002),
   (tq_remove 0 (a ^^^ 2), 3), (tq_size 0, 4), (tq_restore 0 1, 3), (tq_number 0 (20 + 16 * a + 4 * b), -1000000004), (tq_restore 1 0, -1000000004), (tq_restore 1 1, 3), (tq_same, 1), (tq_actions, 0), (tq_changed 0, 2)]
def tq_moves3 (a b : Nat) : List (tq_O × Int) :=
  [(tq_step 84, 0), (tq_changed 0, 0), (tq_changed 1, 0), (tq_move 0 (20 + 16 * a + 4 * b + 3) (a ^^^ 1), 0), (tq_folder 1 ((4 + 4 * a + b) ^^^ 1), 0), (tq_step 84, 3), (tq_same, 1), (tq_number 1 (a ^^^ 1), 0), (tq_twins 1 (4 + 4 * a + b), 1)]
def tq_script (a b : Nat) : List (List (tq_O × Int)) := [tq_fill a b, tq_steps1 a b, tq_steps2 a b, tq_steps3 a b, tq_steps4 a b, tq_moves1 a b, tq_moves2 a b, tq_moves3 a b]
def tq_runs : List (List (tq_O × Int)) → tq_M → Option tq_M
  | [], m => some m
  | x :: t, m => match tq_run x m with
    | some y => tq_runs t y
    | none => none
def tq_isS (o : Option tq_M) : Bool := match o with
  | some _ => true
  | none => false
theorem tq_good : ∀ a, a < 4 → ∀ b, b < 4 → tq_isS (tq_runs (tq_script a b) tq_m0) = true := by decide +kernel
end
section
/-! the heap: one content more, the codes -/
theorem tq_pow (c d : Nat) : 2 ^ (64 * (c + d)) = 2 ^ (64 * d) * 2 ^ (64 * c) := by rw [Nat.mul_add, Nat.pow_add, Nat.mul_comm]
theorem tq_en_old {E e n c : Nat} (h : c < n) : tq_en (E + e <<< (64 * n)) c = tq_en E c := by
  unfold tq_en
  obtain ⟨d, rfl⟩ : ∃ d, n = c + (1 + d) := ⟨n - c - 1, by omega⟩
  have e64 : (2 : Nat) ^ 64 = 18446744073709551616 := by decide
  rw [Nat.shiftLeft_eq, Nat.shiftRight_eq_div_pow, Nat.shiftRight_eq_div_pow, tq_pow, ← Nat.mul_assoc, Nat.add_mul_div_right _ _ (Nat.two_pow_pos _), show 64 * (1 + d) = 64 * d + 64 by omega, Nat.pow_add, ← Nat.mul_assoc, e64]
  exact Nat.add_mul_mod_self_right _ _ _
theorem tq_en_new {E e n : Nat} (hE : E < 2 ^ (64 * n)) (he : e < 18446744073709551616) : tq_en (E + e <<< (64 * n)) n = e := by
  unfold tq_en
  rw [Nat.shiftLeft_eq, Nat.shiftRight_eq_div_pow, Nat.add_mul_div_right _ _ (Nat.two_pow_pos _), Nat.div_eq_of_lt hE, Nat.zero_add, Nat.mod_eq_of_lt he]
theorem tq_E_lt {E e n : Nat} (hE : E < 2 ^ (64 * n)) (he : e < 18446744073709551616) : E + e <<< (64 * n) < 2 ^ (64 * (n + 1)) := by
  have e64 : (2 : Nat) ^ 64 = 18446744073709551616 := by decide
  rw [Nat.shiftLeft_eq, show 64 * (n + 1) = 64 + 64 * n by omega, Nat.pow_add, e64]
  generalize 2 ^ (64 * n) = X at *
  have h : (e + 1) * X ≤ 18446744073709551616 * X := Nat.mul_le_mul_right _ (by omega)
  rw [Nat.add_mul, Nat.one_mul] at h
  omega
def tq_kj (e j : Nat) : Nat := (e >>> (10 * j + 10)) % 1024
theorem tq_k_kj (E c j : Nat) : tq_k E c j = tq_kj (tq_en E c) j := rfl
theorem tq_kj0 (e : Nat) : tq_kj e 0 = e / 1024 % 1024 := by
  unfold tq_kj; rw [Nat.shiftRight_eq_div_pow]
theorem tq_kj1 (e : Nat) : tq_kj e 1 = e / 1048576 % 1024 := by
  unfold tq_kj; rw [Nat.shiftRight_eq_div_pow]
theorem tq_kj2 (e : Nat) : tq_kj e 2 = e / 1073741824 % 1024 := by
  unfold tq_kj; rw [Nat.shiftRight_eq_div_pow]
theorem tq_kj3 (e : Nat) : tq_kj e 3 = e / 1099511627776 % 1024 := by
  unfold tq_kj; rw [Nat.shiftRight_eq_div_pow]
theorem tq_mk_w {w a b c d : Nat} (hw : w < 1024) : tq_mk w a b c d % 1024 = w := by unfold tq_mk; omega
theorem tq_mk_0 {w a b c d : Nat} (hw : w < 1024) (ha : a < 1024) : tq_kj (tq_mk w a b c d) 0 = a := by rw [tq_kj0]; unfold tq_mk; omega
theorem tq_mk_1 {w a b c d : Nat} (hw : w < 1024) (ha : a < 1024) (hb : b < 1024) : tq_kj (tq_mk w a b c d) 1 = b := by rw [tq_kj1]; unfold tq_mk; omega
theorem tq_mk_2 {w a b c d : Nat} (hw : w < 1024) (ha : a < 1024) (hb : b < 1024) (hc : c < 1024) : tq_kj (tq_mk w a b c d) 2 = c := by rw [tq_kj2]; unfold tq_mk; omega
theorem tq_mk_3 {w a b c d : Nat} (hw : w < 1024) (ha : a < 1024) (hb : b < 1024) (hc : c < 1024) (hd : d < 1024) : tq_kj (tq_mk w a b c d) 3 = d := by rw [tq_kj3]; unfold tq_mk; omega
theorem tq_mk_lt {w a b c d : Nat} (hw : w < 1024) (ha : a < 1024) (hb : b < 1024) (hc : c < 1024) (hd : d < 1024) : tq_mk w a b c d < 1125899906842624 := by unfold tq_mk; omega
theorem tq_mk_eta {e : Nat} (h : e < 1125899906842624) : e = tq_mk (e % 1024) (tq_kj e 0) (tq_kj e 1) (tq_kj e 2) (tq_kj e 3) := by
  rw [tq_kj0, tq_kj1, tq_kj2, tq_kj3]; unfold tq_mk; omega
/-- a valid code over n contents -/
def tq_V (n w a b c d : Nat) : Prop := 1 ≤ w ∧ w < 10 ∧ a < n ∧ b < n ∧ c < n ∧ d < n
/-- a heap in order -/
def tq_H (n E : Nat) : Prop :=
  1 ≤ n ∧ n ≤ 1000 ∧ E < 2 ^ (64 * n) ∧ tq_en E 0 = 0 ∧ (∀ c, c < n → tq_en E c < 1125899906842624 ∧ ∀ j, j < 4 → tq_k E c j < n)
  ∧ (∀ c, 1 ≤ c → c < n → 1 ≤ tq_w E c ∧ tq_w E c < 10) ∧ (∀ c d, c < n → d < n → tq_en E c = tq_en E d → c = d)
theorem tq_fd_spec (E e : Nat) : ∀ k c, (tq_fd E e k c = 0 ∧ ∀ d, c ≤ d → d < c + k → tq_en E d ≠ e) ∨ (c ≤ tq_fd E e k c ∧ tq_fd E e k c < c + k ∧ tq_en E (tq_fd E e k c) = e) := by
  intro k
  induction k with
  | zero => intro c; exact Or.inl ⟨rfl, fun d h1 h2 => absurd h2 (by omega)⟩
  | succ k ih =>
    intro c
    by_cases h : tq_en E c = e
    · have t : tq_fd E e (k + 1) c = c := by simp only [tq_fd, h, if_true]
      rw [t]
      exact Or.inr ⟨Nat.le_refl c, by omega, h⟩
    · have t : tq_fd E e (k + 1) c = tq_fd E e k (c + 1) := by simp only [tq_fd, h, if_false]
      rw [t]
      rcases ih (c + 1) with ⟨g1, g2⟩ | ⟨g1, g2, g3⟩
      · refine Or.inl ⟨g1, fun d h1 h2 => ?_⟩
        by_cases hd : d = c
        · rw [hd]; exact h
        · exact g2 d (by omega) (by omega)
      · exact Or.inr ⟨by omega, by omega, g3⟩
theorem tq_ct_spec {n E : Nat} (e : Nat) (h1 : 1 ≤ n) : (∃ c, 1 ≤ c ∧ c < n ∧ tq_en E c = e ∧ tq_ct n E e = (c, n, E)) ∨ ((∀ c, 1 ≤ c → c < n → tq_en E c ≠ e) ∧ tq_ct n E e = (n, n + 1, E + e <<< (64 * n))) := by
  unfold tq_ct
  rcases tq_fd_spec E e (n - 1) 1 with ⟨g1, g2⟩ | ⟨g1, g2, g3⟩
  · rw [if_pos g1]
    exact Or.inr ⟨fun c h2 h3 => g2 c h2 (by omega), rfl⟩
  · rw [if_neg (by omega)]
    exact Or.inl ⟨_, g1, by omega, g3, rfl⟩
theorem tq_ct_n {n E : Nat} (e : Nat) (h1 : 1 ≤ n) : n ≤ (tq_ct n E e).2.1 ∧ (tq_ct n E e).2.1 ≤ n + 1 ∧ (tq_ct n E e).1 < (tq_ct n E e).2.1 ∧ 1 ≤ (tq_ct n E e).1 := by
  rcases tq_ct_spec (E := E) e h1 with ⟨c, h2, h3, h4, h5⟩ | ⟨h2, h3⟩
  · rw [h5]; exact ⟨Nat.le_refl n, Nat.le_succ n, h3, h2⟩
  · rw [h3]; exact ⟨Nat.le_succ n, Nat.le_refl _, Nat.lt_succ_self n, h1⟩
theorem tq_H_add {n E w a b c d : Nat} (h : tq_H n E) (hn : n < 1000) (hv : tq_V n w a b c d) (hf : ∀ i, 1 ≤ i → i < n → tq_en E i ≠ tq_mk w a b c d) : tq_H (n + 1) (E + tq_mk w a b c d <<< (64 * n)) := by
  obtain ⟨h1, h2, h3, h4, h5, h6, h7⟩ := h
  obtain ⟨v1, v2, v3, v4, v5, v6⟩ := hv
  have L : tq_mk w a b c d < 1125899906842624 := tq_mk_lt (by omega) (by omega) (by omega) (by omega) (by omega)
  have N : tq_en (E + tq_mk w a b c d <<< (64 * n)) n = tq_mk w a b c d := tq_en_new h3 (by omega)
  have W : tq_mk w a b c d % 1024 = w := tq_mk_w (by omega)
  have O : ∀ i, i < n → tq_en (E + tq_mk w a b c d <<< (64 * n)) i = tq_en E i := fun i hi => tq_en_old hi
  have ne0 : tq_mk w a b c d ≠ 0 := fun z => by rw [z] at W; omega
  refine ⟨by omega, by omega, tq_E_lt h3 (by omega), by rw [O 0 (by omega)]; exact h4, fun i hi => ?_, fun i hi hi2 => ?_, fun i j hi hj e => ?_⟩
  · by_cases q : i = n
    · subst q
      refine ⟨by rw [N]; exact L, fun j hj => ?_⟩
      rw [tq_k_kj, N]
      rcases (show j = 0 ∨ j = 1 ∨ j = 2 ∨ j = 3 by omega) with q | q | q | q
      · subst q; rw [tq_mk_0 (by omega) (by omega)]; omega
      · subst q; rw [tq_mk_1 (by omega) (by omega) (by omega)]; omega
      · subst q; rw [tq_mk_2 (by omega) (by omega) (by omega) (by omega)]; omega
      · subst q; rw [tq_mk_3 (by omega) (by omega) (by omega) (by omega) (by omega)]; omega
    · have h5' := h5 i (by omega)
      refine ⟨by rw [O i (by omega)]; exact h5'.1, fun j hj => ?_⟩
      rw [tq_k_kj, O i (by omega), ← tq_k_kj]
      exact Nat.lt_succ_of_lt (h5'.2 j hj)
  · by_cases q : i = n
    · subst q
      unfold tq_w
      rw [N, W]
      exact ⟨v1, v2⟩
    · unfold tq_w
      rw [O i (by omega)]
      exact h6 i hi (by omega)
  · by_cases qi : i = n
    · by_cases qj : j = n
      · rw [qi, qj]
      · rw [qi, N, O j (by omega)] at e
        by_cases q0 : j = 0
        · rw [q0, h4] at e
          exact absurd e ne0
        · exact absurd e.symm (hf j (by omega) (by omega))
    · by_cases qj : j = n
      · rw [qj, N, O i (by omega)] at e
        by_cases q0 : i = 0
        · rw [q0, h4] at e
          exact absurd e.symm ne0
        · exact absurd e (hf i (by omega) (by omega))
      · rw [O i (by omega), O j (by omega)] at e
        exact h7 i j (by omega) (by omega) e
theorem tq_H_ct {n E w a b c d : Nat} (h : tq_H n E) (hn : n < 1000) (hv : tq_V n w a b c d) : tq_H (tq_ct n E (tq_mk w a b c d)).2.1 (tq_ct n E (tq_mk w a b c d)).2.2 := by
  rcases tq_ct_spec (E := E) (tq_mk w a b c d) h.1 with ⟨i, h2, h3, h4, h5⟩ | ⟨h2, h3⟩
  · rw [h5]; exact h
  · rw [h3]; exact tq_H_add h hn hv h2
/-! the table: slots, reach, count -/
def tq_cn (a : Nat → Int32) : Nat → Nat
  | 0 => 0
  | k + 1 => tq_cn a k + (if a k = -1 then 0 else 1)
theorem tq_cn_full {a : Nat → Int32} : ∀ k, (∀ h, h < k → a h ≠ -1) → tq_cn a k = k := by
  intro k
  induction k with
  | zero => intro _; rfl
  | succ k ih =>
    intro h
    unfold tq_cn
    rw [ih (fun j hj => h j (by omega)), if_neg (h k (by omega))]
theorem tq_cn_upd {a : Nat → Int32} {s : Nat} {x : Int32} : ∀ k, tq_cn (upd a s x) k ≤ tq_cn a k + (if s < k then 1 else 0) := by
  intro k
  induction k with
  | zero => exact Nat.zero_le _
  | succ k ih =>
    unfold tq_cn
    by_cases h : k = s
    · subst h
      rw [if_neg (Nat.lt_irrefl k)] at ih
      rw [if_pos (Nat.lt_succ_self k)]
      have : (if upd a k x k = -1 then 0 else 1) ≤ 1 := by split <;> omega
      omega
    · rw [pk_un h]
      by_cases g : s < k
      · rw [if_pos g] at ih
        rw [if_pos (show s < k + 1 by omega)]
        omega
      · rw [if_neg g] at ih
        rw [if_neg (show ¬ s < k + 1 by omega)]
        omega
theorem tq_ne1 {c : Nat} (h : c < 2 ^ 31) : nI c ≠ -1 := fun e => by
  have t := nI_toInt h
  rw [e, show (-1 : Int32).toInt = -1 by decide] at t
  omega
/-- a content's number -/
def tq_nw (v : Int32) (w : Nat) : Int32 := if w ≤ 1 then 0 else v + nI (w - 2)
def tq_h5 (p0 p1 p2 p3 p4 p5 : Int32) : Int32 := (((((((((p0 * 31) + p1) * 31) + p2) * 31) + p3) * 31) + p4) * 31) + p5
def tq_hh (x : Int32) : Nat := ((x ^^^ ((x.toUInt32 >>> ((11 : Int32).toUInt32 &&& Int32.toUInt32 31)).toInt32)) ^^^ ((x.toUInt32 >>> ((22 : Int32).toUInt32 &&& Int32.toUInt32 31)).toInt32)).toBitVec.toNat % 2048
/-- the hash of a code -/
def tq_hc (v : Int32) (e : Nat) : Nat := tq_hh (tq_h5 (nI (tq_kw (e % 1024))) (tq_nw v (e % 1024)) (nI (tq_kj e 0)) (nI (tq_kj e 1)) (nI (tq_kj e 2)) (nI (tq_kj e 3)))
theorem tq_hh_lt (x : Int32) : tq_hh x < 2048 := Nat.mod_lt _ (by decide)
def tq_T (v : Int32) (n E : Nat) (a4 : Nat → Int32) : Prop :=
  (∀ h, h < 2048 → a4 h = -1 ∨ ∃ c, 1 ≤ c ∧ c < n ∧ a4 h = nI c)
  ∧ (∀ c, 1 ≤ c → c < n → ∃ d, d < 2048 ∧ a4 ((tq_hc v (tq_en E c) + d) % 2048) = nI c ∧ ∀ i, i < d → a4 ((tq_hc v (tq_en E c) + i) % 2048) ≠ -1)
  ∧ tq_cn a4 2048 < n
def tq_A (v : Int32) (n E : Nat) (md : Int32) (a1 a2 a3 : Nat → Int32) : Prop :=
  md = nI n ∧ ∀ c, c < n → a1 c = nI (tq_kn E c) ∧ a2 c = tq_nw v (tq_w E c) ∧ ∀ j, j < 4 → a3 (4 * c + j) = nI (tq_k E c j)
def tq_hp (v : Int32) (n E : Nat) (md : Int32) (a1 a2 a3 a4 : Nat → Int32) : Prop := tq_H n E ∧ tq_A v n E md a1 a2 a3 ∧ tq_T v n E a4
theorem tq_T_add {v : Int32} {n E e i : Nat} {a4 : Nat → Int32} (h : tq_T v n E a4) (h1 : 1 ≤ n) (hn : n < 1000) (hE : E < 2 ^ (64 * n)) (he : e < 18446744073709551616) (hi : i < 2048)
    (hs : a4 ((tq_hc v e + i) % 2048) = -1) (hb : ∀ d, d < i → a4 ((tq_hc v e + d) % 2048) ≠ -1) : tq_T v (n + 1) (E + e <<< (64 * n)) (upd a4 ((tq_hc v e + i) % 2048) (nI n)) := by
  obtain ⟨t1, t2, t3⟩ := h
  generalize hS : (tq_hc v e + i) % 2048 = s at *
  have U : ∀ q, a4 q ≠ -1 → upd a4 s (nI n) q = a4 q := fun q hq => pk_un (fun z => hq (by rw [z]; exact hs))
  refine ⟨fun q hq => ?_, fun c hc1 hc2 => ?_, ?_⟩
  · by_cases z : q = s
    · rw [z, pk_us]; exact Or.inr ⟨n, h1, by omega, rfl⟩
    · rw [pk_un z]
      rcases t1 q hq with g | ⟨c, g1, g2, g3⟩
      · exact Or.inl g
      · exact Or.inr ⟨c, g1, by omega, g3⟩
  · by_cases z : c = n
    · subst z
      rw [tq_en_new hE he]
      refine ⟨i, hi, by rw [hS, pk_us], fun d hd => ?_⟩
      rw [U _ (hb d hd)]
      exact hb d hd
    · rw [tq_en_old (show c < n by omega)]
      obtain ⟨d, d1, d2, d3⟩ := t2 c hc1 (by omega)
      refine ⟨d, d1, ?_, fun k hk => ?_⟩
      · rw [U _ (by rw [d2]; exact tq_ne1 (by omega))]; exact d2
      · rw [U _ (d3 k hk)]; exact d3 k hk
  · have := tq_cn_upd (a := a4) (s := s) (x := nI n) 2048
    have : (if s < 2048 then 1 else 0) ≤ 1 := by split <;> omega
    omega
/-! fields equal: codes equal -/
theorem tq_addI {v : Int32} {a b : Nat} (ha : a < 2 ^ 31) (hb : b < 2 ^ 31) (h : v + nI a = v + nI b) : a = b := by
  have : nI a = nI b := by
    have t : v + nI a - v = v + nI b - v := by rw [h]
    rwa [Int32.add_comm v, Int32.add_sub_cancel, Int32.add_comm v, Int32.add_sub_cancel] at t
  exact (nI_eq ha hb).mp this
theorem tq_kwI {v : Int32} {x y : Nat} (hx : 1 ≤ x) (hx2 : x < 10) (hy : 1 ≤ y) (hy2 : y < 10) (h1 : nI (tq_kw x) = nI (tq_kw y)) (h2 : tq_nw v x = tq_nw v y) : x = y := by
  have b : ∀ w, tq_kw w < 3 := fun w => by unfold tq_kw; split <;> (try split) <;> omega
  have h1' := (nI_eq (by have := b x; omega) (by have := b y; omega)).mp h1
  unfold tq_kw at h1'
  unfold tq_nw at h2
  by_cases e1 : x = 1
  · by_cases e2 : y = 1
    · omega
    · rw [if_neg (by omega), if_pos e1, if_neg (by omega), if_neg e2] at h1'
      omega
  · by_cases e2 : y = 1
    · rw [if_neg (by omega), if_neg e1, if_neg (by omega), if_pos e2] at h1'
      omega
    · rw [if_neg (by omega), if_neg (by omega)] at h2
      have := tq_addI (by omega) (by omega) h2
      omega
end
section
/-! content(kind, x, a, b, c, d) -/
theorem tq_hash {post : Int32 → Prop} {md pf pi ac cc al st dp : Int32} {a1 a2 a3 a4 a5 a6 a7 a8 a9 a10 a11 a12 a13 : Nat → Int32} {p0 p1 p2 p3 p4 p5 : Int32} (h : post (nI (tq_hh (tq_h5 p0 p1 p2 p3 p4 p5)))) : wpX_hash post (md, pf, pi, ac, cc, al, st, dp, a1, a2, a3, a4, a5, a6, a7, a8, a9, a10, a11, a12, a13) p0 p1 p2 p3 p4 p5 := by
  have e : ∀ x : Int32, x &&& 2047 = nI (x.toBitVec.toNat % 2048) := fun x => pk_and x 11 (by decide)
  refine nm_e (nm_e (nm_e (nm_e (nm_e ?_))))
  show post (_ &&& 2047)
  rw [e]
  exact h
theorem tq_isThat {post : Int32 → Prop} {md pf pi ac cc al st dp : Int32} {a1 a2 a3 a4 a5 a6 a7 a8 a9 a10 a11 a12 a13 : Nat → Int32} {c : Nat} {q1 q2 q3 : Int32} (hc : c < 1024) (ht : a1 c = q1 → a2 c = q2 → a3 (4 * c + 0) = q3 → post 1) (hf : ¬ (a1 c = q1 ∧ a2 c = q2 ∧ a3 (4 * c + 0) = q3) → post 0) : wpX_isThat post (md, pf, pi, ac, cc, al, st, dp, a1, a2, a3, a4, a5, a6, a7, a8, a9, a10, a11, a12, a13) (nI c) q1 q2 q3 := by
  have e1 : (nI c).toNatClampNeg = c := nI_clamp (by omega)
  have e2 : (4 : Int32) * nI c = nI (4 * c) := pk_mul 4 c
  have e3 : (nI (4 * c)).toNatClampNeg = 4 * c := nI_clamp (by omega)
  unfold wpX_isThat
  dsimp only
  rw [e2, e3, e1]
  exact ⟨pk_in c 1024 hc, br_c (fun h1 => ⟨pk_in c 1024 hc, br_c (fun h2 => ⟨pk_in (4 * c) 4096 (by omega), br_c (fun h3 => ht h1 h2 h3) (fun h3 => hf (fun t => h3 t.2.2))⟩) (fun h2 => hf (fun t => h2 t.2.1))⟩) (fun h1 => hf (fun t => h1 t.1))⟩
theorem tq_probe {post : Int32 → St2 → Prop} {md pf pi ac cc al st dp : Int32} {a1 a2 a3 a4 a5 a6 a7 a8 a9 a10 a11 a12 a13 : Nat → Int32} {v : Int32} {n E w a b c d : Nat} (hp : tq_hp v n E md a1 a2 a3 a4) (hv : tq_V n w a b c d)
    (Hf : ∀ i, 1 ≤ i → i < n → tq_en E i = tq_mk w a b c d → post (nI i) (md, pf, pi, ac, cc, al, st, dp, a1, a2, a3, a4, a5, a6, a7, a8, a9, a10, a11, a12, a13))
    (Hn : (∀ i, 1 ≤ i → i < n → tq_en E i ≠ tq_mk w a b c d) → ∀ i, i < 2048 → a4 ((tq_hc v (tq_mk w a b c d) + i) % 2048) = -1 → (∀ q, q < i → a4 ((tq_hc v (tq_mk w a b c d) + q) % 2048) ≠ -1) →
      wX_content_125 post (nI (tq_kw w)) (tq_nw v w) (nI a) (nI b) (nI c) (nI d) (nI ((tq_hc v (tq_mk w a b c d) + i) % 2048)) md pf pi ac cc al st dp a1 a2 a3 a4 a5 a6 a7 a8 a9 a10 a11 a12 a13) :
    ∀ k i, i + k = 2048 → (∀ q, q < i → a4 ((tq_hc v (tq_mk w a b c d) + q) % 2048) ≠ -1 ∧ ∀ j, j < n → a4 ((tq_hc v (tq_mk w a b c d) + q) % 2048) = nI j → tq_en E j ≠ tq_mk w a b c d) →
      wX_content_18 post (nI (tq_kw w)) (tq_nw v w) (nI a) (nI b) (nI c) (nI d) md pf pi ac cc al st dp a1 a2 a3 a4 a5 a6 a7 a8 a9 a10 a11 a12 a13 (k + 1) (nI ((tq_hc v (tq_mk w a b c d) + i) % 2048)) (nI i) := by
  obtain ⟨⟨H1, H2, H3, H4, H5, H6, H7⟩, ⟨A1, A2⟩, T1, T2, T3⟩ := hp
  obtain ⟨v1, v2, v3, v4, v5, v6⟩ := hv
  have hl : tq_hc v (tq_mk w a b c d) < 2048 := tq_hh_lt _
  generalize hh : tq_hc v (tq_mk w a b c d) = h at *
  intro k
  induction k with
  | zero =>
    intro i hik hi
    have full : ∀ q, q < 2048 → a4 q ≠ -1 := fun q hq => by
      have t := (hi ((q + 2048 - h) % 2048) (by omega)).1
      rwa [show (h + (q + 2048 - h) % 2048) % 2048 = q by omega] at t
    have := tq_cn_full 2048 full
    omega
  | succ k ih =>
    intro i hik hi
    have hs : (h + i) % 2048 < 2048 := Nat.mod_lt _ (by decide)
    have cl : (nI ((h + i) % 2048)).toNatClampNeg = (h + i) % 2048 := nI_clamp (by omega)
    refine pk_le 2048 i (fun z => absurd z (by omega)) (fun _ => ⟨pk_in _ 2048 hs, ?_⟩)
    rw [cl]
    rcases T1 _ hs with g | ⟨j, j1, j2, j3⟩
    · refine br_t g (Hn ?_ i (by omega) g (fun q hq => (hi q hq).1))
      intro q q1 q2 q3
      obtain ⟨x, d1, d2, d3⟩ := T2 q q1 q2
      rw [q3, hh] at d2 d3
      by_cases z : x < i
      · exact (hi x z).2 q q2 d2 q3
      · by_cases z2 : x = i
        · rw [z2] at d2
          exact tq_ne1 (by omega) (d2.symm.trans g)
        · exact d3 i (by omega) g
    · have eq := A2 j j2
      have eqv : tq_en E j = tq_mk w a b c d → a1 j = nI (tq_kw w) ∧ a2 j = tq_nw v w ∧ a3 (4 * j + 0) = nI a ∧ a3 (4 * j + 1) = nI b ∧ a3 (4 * j + 2) = nI c ∧ a3 (4 * j + 3) = nI d := by
        intro e
        have ew : tq_w E j = w := by unfold tq_w; rw [e]; exact tq_mk_w (by omega)
        refine ⟨by rw [eq.1]; unfold tq_kn; rw [ew], by rw [eq.2.1, ew], ?_, ?_, ?_, ?_⟩
        · rw [eq.2.2 0 (by omega), tq_k_kj, e, tq_mk_0 (by omega) (by omega)]
        · rw [eq.2.2 1 (by omega), tq_k_kj, e, tq_mk_1 (by omega) (by omega) (by omega)]
        · rw [eq.2.2 2 (by omega), tq_k_kj, e, tq_mk_2 (by omega) (by omega) (by omega) (by omega)]
        · rw [eq.2.2 3 (by omega), tq_k_kj, e, tq_mk_3 (by omega) (by omega) (by omega) (by omega) (by omega)]
      have nx : tq_en E j ≠ tq_mk w a b c d → wX_content_109 post (wX_content_18 post (nI (tq_kw w)) (tq_nw v w) (nI a) (nI b) (nI c) (nI d) md pf pi ac cc al st dp a1 a2 a3 a4 a5 a6 a7 a8 a9 a10 a11 a12 a13 (k + 1)) (nI (tq_kw w)) (tq_nw v w) (nI a) (nI b) (nI c) (nI d) (nI ((h + i) % 2048)) (nI i) md pf pi ac cc al st dp a1 a2 a3 a4 a5 a6 a7 a8 a9 a10 a11 a12 a13 := by
        intro hne
        refine nm_r (e' := nI ((h + (i + 1)) % 2048)) ?_ (nm_r (nI_1 i) (ih (i + 1) (by omega) ?_))
        · rw [nI_1, pk_andN (by omega) 11 (by decide)]
          congr 1
          omega
        · intro q hq
          by_cases z : q < i
          · exact hi q z
          · have z2 : q = i := by omega
            rw [z2]
            refine ⟨by rw [j3]; exact tq_ne1 (by omega), fun y hy hy2 => ?_⟩
            have : y = j := (nI_eq (by omega) (by omega)).mp (hy2.symm.trans j3)
            rw [this]; exact hne
      have c4 : (4 : Int32) * nI j = nI (4 * j) := pk_mul 4 j
      have i1 : (4 : Int32) * nI j + 1 = nI (4 * j + 1) := by rw [c4]; exact nI_add _ 1
      have i2 : (4 : Int32) * nI j + 2 = nI (4 * j + 2) := by rw [c4]; exact nI_add _ 2
      have i3 : (4 : Int32) * nI j + 3 = nI (4 * j + 3) := by rw [c4]; exact nI_add _ 3
      refine br_f (by rw [j3]; exact tq_ne1 (by omega)) ⟨pk_in _ 2048 hs, nm_r j3 ?_⟩
      refine tq_isThat (by omega) (fun t1 t2 t3 => br_f (by decide) ?_) (fun t => br_t rfl (nx (fun e => t ⟨(eqv e).1, (eqv e).2.1, (eqv e).2.2.1⟩)))
      rw [i1, i2, i3, nI_clamp (show 4 * j + 1 < 2 ^ 31 by omega), nI_clamp (show 4 * j + 2 < 2 ^ 31 by omega), nI_clamp (show 4 * j + 3 < 2 ^ 31 by omega)]
      refine ⟨pk_in (4 * j + 1) 4096 (by omega), br_c (fun t4 => ⟨pk_in (4 * j + 2) 4096 (by omega), br_c (fun t5 => ⟨pk_in (4 * j + 3) 4096 (by omega), br_c (fun t6 => Hf j j1 j2 ?_) (fun t6 => nx (fun e => t6 (eqv e).2.2.2.2.2))⟩) (fun t5 => nx (fun e => t5 (eqv e).2.2.2.2.1))⟩) (fun t4 => nx (fun e => t4 (eqv e).2.2.2.1))⟩
      have hw := H6 j j1 j2
      have ew : tq_w E j = w := tq_kwI hw.1 hw.2 v1 v2 (eq.1.symm.trans t1) (eq.2.1.symm.trans t2)
      have hk := (H5 j j2).2
      have q0 : tq_k E j 0 = a := (nI_eq (by have := hk 0 (by omega); omega) (by omega)).mp ((eq.2.2 0 (by omega)).symm.trans t3)
      have q1 : tq_k E j 1 = b := (nI_eq (by have := hk 1 (by omega); omega) (by omega)).mp ((eq.2.2 1 (by omega)).symm.trans t4)
      have q2 : tq_k E j 2 = c := (nI_eq (by have := hk 2 (by omega); omega) (by omega)).mp ((eq.2.2 2 (by omega)).symm.trans t5)
      have q3 : tq_k E j 3 = d := (nI_eq (by have := hk 3 (by omega); omega) (by omega)).mp ((eq.2.2 3 (by omega)).symm.trans t6)
      rw [tq_mk_eta (H5 j j2).1, ← q0, ← q1, ← q2, ← q3, ← ew]
      rfl
theorem tq_c125 {post : Int32 → St2 → Prop} {md pf pi ac cc al st dp : Int32} {a1 a2 a3 a4 a5 a6 a7 a8 a9 a10 a11 a12 a13 : Nat → Int32} {x1 x2 x3 x4 x5 x6 : Int32} {n s : Nat} (hm : md = nI n) (hn : n < 1000) (hs : s < 2048)
    (H : post (nI n) (nI (n + 1), pf, pi, ac, cc, al, st, dp, upd a1 n x1, upd a2 n x2, upd (upd (upd (upd a3 (4 * n) x3) (4 * n + 1) x4) (4 * n + 2) x5) (4 * n + 3) x6, upd a4 s (nI n), a5, a6, a7, a8, a9, a10, a11, a12, a13)) : wX_content_125 post x1 x2 x3 x4 x5 x6 (nI s) md pf pi ac cc al st dp a1 a2 a3 a4 a5 a6 a7 a8 a9 a10 a11 a12 a13 := by
  subst hm
  have c4 : (4 : Int32) * nI n = nI (4 * n) := pk_mul 4 n
  have i1 : (4 : Int32) * nI n + 1 = nI (4 * n + 1) := by rw [c4]; exact nI_add _ 1
  have i2 : (4 : Int32) * nI n + 2 = nI (4 * n + 2) := by rw [c4]; exact nI_add _ 2
  have i3 : (4 : Int32) * nI n + 3 = nI (4 * n + 3) := by rw [c4]; exact nI_add _ 3
  unfold wX_content_125
  rw [i1, i2, i3, c4, nI_clamp (show n < 2 ^ 31 by omega), nI_clamp (show 4 * n < 2 ^ 31 by omega), nI_clamp (show 4 * n + 1 < 2 ^ 31 by omega), nI_clamp (show 4 * n + 2 < 2 ^ 31 by omega), nI_clamp (show 4 * n + 3 < 2 ^ 31 by omega), nI_clamp (show s < 2 ^ 31 by omega), nI_1]
  exact ⟨pk_in n 1024 (by omega), nm_e ⟨pk_in n 1024 (by omega), nm_e ⟨pk_in (4 * n) 4096 (by omega), nm_e ⟨pk_in (4 * n + 1) 4096 (by omega), nm_e ⟨pk_in (4 * n + 2) 4096 (by omega), nm_e ⟨pk_in (4 * n + 3) 4096 (by omega), nm_e ⟨pk_in s 2048 hs, nm_e (nm_e H)⟩⟩⟩⟩⟩⟩⟩
theorem tq_A_add {v md : Int32} {a1 a2 a3 : Nat → Int32} {n E w a b c d : Nat} (h : tq_A v n E md a1 a2 a3) (hE : E < 2 ^ (64 * n)) (hn : n < 1000) (hv : tq_V n w a b c d) :
    tq_A v (n + 1) (E + tq_mk w a b c d <<< (64 * n)) (nI (n + 1)) (upd a1 n (nI (tq_kw w))) (upd a2 n (tq_nw v w)) (upd (upd (upd (upd a3 (4 * n) (nI a)) (4 * n + 1) (nI b)) (4 * n + 2) (nI c)) (4 * n + 3) (nI d)) := by
  obtain ⟨v1, v2, v3, v4, v5, v6⟩ := hv
  have L : tq_mk w a b c d < 1125899906842624 := tq_mk_lt (by omega) (by omega) (by omega) (by omega) (by omega)
  have N : tq_en (E + tq_mk w a b c d <<< (64 * n)) n = tq_mk w a b c d := tq_en_new hE (by omega)
  have W : tq_mk w a b c d % 1024 = w := tq_mk_w (by omega)
  refine ⟨rfl, fun i hi => ?_⟩
  by_cases q : i = n
  · rw [q]
    refine ⟨by rw [pk_us]; unfold tq_kn tq_w; rw [N, W], by rw [pk_us]; unfold tq_w; rw [N, W], fun j hj => ?_⟩
    rw [tq_k_kj, N]
    rcases (show j = 0 ∨ j = 1 ∨ j = 2 ∨ j = 3 by omega) with q | q | q | q
    · subst q; rw [tq_mk_0 (by omega) (by omega), pk_un (by omega), pk_un (by omega), pk_un (by omega)]; exact pk_us
    · subst q; rw [tq_mk_1 (by omega) (by omega) (by omega), pk_un (by omega), pk_un (by omega), pk_us]
    · subst q; rw [tq_mk_2 (by omega) (by omega) (by omega) (by omega), pk_un (by omega), pk_us]
    · subst q; rw [tq_mk_3 (by omega) (by omega) (by omega) (by omega) (by omega), pk_us]
  · have O : tq_en (E + tq_mk w a b c d <<< (64 * n)) i = tq_en E i := tq_en_old (by omega)
    obtain ⟨g1, g2, g3⟩ := h.2 i (by omega)
    refine ⟨by rw [pk_un q, g1]; unfold tq_kn tq_w; rw [O], by rw [pk_un q, g2]; unfold tq_w; rw [O], fun j hj => ?_⟩
    rw [pk_un (by omega), pk_un (by omega), pk_un (by omega), pk_un (by omega), g3 j hj, tq_k_kj, tq_k_kj, O]
theorem tq_content {post : Int32 → St2 → Prop} {md pf pi ac cc al st dp : Int32} {a1 a2 a3 a4 a5 a6 a7 a8 a9 a10 a11 a12 a13 : Nat → Int32} {v : Int32} {n E : Nat} (w a b c d : Nat) (hp : tq_hp v n E md a1 a2 a3 a4) (hn : n < 1000) (hv : tq_V n w a b c d)
    (H : ∀ md' a1' a2' a3' a4', tq_hp v (tq_ct n E (tq_mk w a b c d)).2.1 (tq_ct n E (tq_mk w a b c d)).2.2 md' a1' a2' a3' a4' → post (nI (tq_ct n E (tq_mk w a b c d)).1) (md', pf, pi, ac, cc, al, st, dp, a1', a2', a3', a4', a5, a6, a7, a8, a9, a10, a11, a12, a13)) :
    wpX_content post (md, pf, pi, ac, cc, al, st, dp, a1, a2, a3, a4, a5, a6, a7, a8, a9, a10, a11, a12, a13) (nI (tq_kw w)) (tq_nw v w) (nI a) (nI b) (nI c) (nI d) := by
  have hv' := hv
  obtain ⟨v1, v2, v3, v4, v5, v6⟩ := hv
  have hp' := hp
  obtain ⟨hH, hA, hT⟩ := hp
  have hH' := hH
  obtain ⟨H1, H2, H3, H4, H5, H6, H7⟩ := hH
  have L : tq_mk w a b c d < 1125899906842624 := tq_mk_lt (by omega) (by omega) (by omega) (by omega) (by omega)
  have hc : tq_hc v (tq_mk w a b c d) = tq_hh (tq_h5 (nI (tq_kw w)) (tq_nw v w) (nI a) (nI b) (nI c) (nI d)) := by
    unfold tq_hc
    rw [tq_mk_w (by omega), tq_mk_0 (by omega) (by omega), tq_mk_1 (by omega) (by omega) (by omega), tq_mk_2 (by omega) (by omega) (by omega) (by omega), tq_mk_3 (by omega) (by omega) (by omega) (by omega) (by omega)]
  have P := tq_probe (post := post) (pf := pf) (pi := pi) (ac := ac) (cc := cc) (al := al) (st := st) (dp := dp) (a5 := a5) (a6 := a6) (a7 := a7) (a8 := a8) (a9 := a9) (a10 := a10) (a11 := a11) (a12 := a12) (a13 := a13) hp' hv' ?_ ?_ 2048 0 (by omega) (fun q hq => absurd hq (by omega))
  · unfold wpX_content
    refine tq_hash ?_
    refine ⟨2049, ?_⟩
    rw [Nat.add_zero (tq_hc v (tq_mk w a b c d)), hc, Nat.mod_eq_of_lt (tq_hh_lt _)] at P
    exact P
  · intro i i1 i2 i3
    rcases tq_ct_spec (E := E) (tq_mk w a b c d) H1 with ⟨k, h2, h3, h4, h5⟩ | ⟨h2, h3⟩
    · have e : k = i := H7 k i h3 i2 (h4.trans i3.symm)
      rw [h5] at H
      rw [← e]
      exact H md a1 a2 a3 a4 hp'
    · exact absurd i3 (h2 i i1 i2)
  · intro hne i i1 i2 i3
    rcases tq_ct_spec (E := E) (tq_mk w a b c d) H1 with ⟨k, h2, h3, h4, h5⟩ | ⟨h2, h3⟩
    · exact absurd h4 (hne k h2 h3)
    · rw [h3] at H
      exact tq_c125 hA.1 hn (Nat.mod_lt _ (by decide)) (H _ _ _ _ _ ⟨tq_H_add hH' hn hv' hne, tq_A_add hA H3 hn hv', tq_T_add hT H1 hn H3 (by omega) i1 i2 i3⟩)
end
section
/-! paths and ways -/
def tq_pI (q : Nat) : Int32 := if q < 4 then -1 else nI (tq_par q)
theorem tq_nameOf {post : Int32 → Prop} {md pf pi ac cc al st dp : Int32} {a1 a2 a3 a4 a5 a6 a7 a8 a9 a10 a11 a12 a13 : Nat → Int32} {q : Nat} (hq : q < 84) (h : post (nI (q % 4))) : wpX_nameOf post (md, pf, pi, ac, cc, al, st, dp, a1, a2, a3, a4, a5, a6, a7, a8, a9, a10, a11, a12, a13) (nI q) := by
  show post (nI q &&& 3)
  rw [pk_andN (by omega) 2 (by decide)]
  exact h
theorem tq_parentOf {post : Int32 → Prop} {md pf pi ac cc al st dp : Int32} {a1 a2 a3 a4 a5 a6 a7 a8 a9 a10 a11 a12 a13 : Nat → Int32} {q : Nat} (hq : q < 84) (h : post (tq_pI q)) : wpX_parentOf post (md, pf, pi, ac, cc, al, st, dp, a1, a2, a3, a4, a5, a6, a7, a8, a9, a10, a11, a12, a13) (nI q) := by
  refine pk_le 4 q (fun z => pk_le 20 q (fun z2 => ⟨by decide, ?_⟩) (fun z2 => ⟨by decide, ?_⟩)) (fun z => ?_)
  · have e1 : nI q - 20 = nI (q - 20) := pk_sub (a := q) (b := 20) z2
    have e2 : nI (q - 20) / 4 = nI ((q - 20) / 4) := pk_div (a := q - 20) (d := 4) (by omega) (by decide) (by decide)
    have e3 : (4 : Int32) + nI ((q - 20) / 4) = nI (4 + (q - 20) / 4) := nI_add 4 _
    have e4 : tq_pI q = nI (4 + (q - 20) / 4) := by unfold tq_pI tq_par; rw [if_neg (by omega), if_neg (by omega)]
    rw [e4] at h
    rw [e1, e2, e3]
    exact h
  · have e1 : nI q - 4 = nI (q - 4) := pk_sub (a := q) (b := 4) z
    have e2 : nI (q - 4) / 4 = nI ((q - 4) / 4) := pk_div (a := q - 4) (d := 4) (by omega) (by decide) (by decide)
    have e4 : tq_pI q = nI ((q - 4) / 4) := by unfold tq_pI tq_par; rw [if_neg (by omega), if_pos (by omega)]
    rw [e4] at h
    rw [e1, e2]
    exact h
  · have e4 : tq_pI q = -1 := by unfold tq_pI; rw [if_pos (by omega)]
    rw [e4] at h
    exact h
theorem tq_levelOf {post : Int32 → Prop} {md pf pi ac cc al st dp : Int32} {a1 a2 a3 a4 a5 a6 a7 a8 a9 a10 a11 a12 a13 : Nat → Int32} {q : Nat} (hq : q < 84) (h : post (nI (tq_lv q))) : wpX_levelOf post (md, pf, pi, ac, cc, al, st, dp, a1, a2, a3, a4, a5, a6, a7, a8, a9, a10, a11, a12, a13) (nI q) := by
  unfold tq_lv at h
  refine pk_le 4 q (fun z => pk_le 20 q (fun z2 => ?_) (fun z2 => ?_)) (fun z => ?_)
  · rw [if_neg (by omega), if_neg (by omega)] at h; exact h
  · rw [if_neg (by omega), if_pos (by omega)] at h; exact h
  · rw [if_pos (by omega)] at h; exact h
theorem tq_lv_le (p : Nat) : 1 ≤ tq_lv p ∧ tq_lv p ≤ 3 := by unfold tq_lv; split <;> (try split) <;> omega
theorem tq_nm_lt {p : Nat} (hp : p < 84) (j : Nat) : tq_nm p j < 4 := by
  unfold tq_nm
  split
  · assumption
  · split
    · split <;> omega
    · split
      · omega
      · split <;> omega
theorem tq_wy_lt {n E r p : Nat} (h : tq_H n E) (hr : r < n) (hp : p < 84) : ∀ j, tq_wy E r p j < n := by
  intro j
  induction j with
  | zero => exact hr
  | succ j ih => exact (h.2.2.2.2.1 _ ih).2 _ (tq_nm_lt hp j)
theorem tq_at_lt {n E r p : Nat} (h : tq_H n E) (hr : r < n) (hp : p < 84) : tq_at E r p < n := tq_wy_lt h hr hp _
theorem tq_fw63 {post : St2 → Prop} {md pf pi ac cc al st : Int32} {a1 a2 a3 a4 a5 a6 a7 a8 a9 a10 a11 a13 : Nat → Int32} {n E D : Nat} {W N : Nat → Nat} (hD : D ≤ 3) (hn : n ≤ 1000) (h3 : ∀ c, c < n → ∀ j, j < 4 → a3 (4 * c + j) = nI (tq_k E c j))
    (hW : ∀ j, j ≤ D → W j < n) (hN : ∀ j, j < D → N j < 4) (hs : ∀ j, j < D → W (j + 1) = tq_k E (W j) (N j)) (h13 : ∀ j, j < D → a13 j = nI (N j))
    (H : ∀ x12, (∀ j, j ≤ D → x12 j = nI (W j)) → post (md, pf, pi, ac, cc, al, st, nI D, a1, a2, a3, a4, a5, a6, a7, a8, a9, a10, a11, x12, a13)) :
    ∀ k i x12, i + k = D → (∀ j, j ≤ i → x12 j = nI (W j)) → wX_findWay_63 post md pf pi ac cc al st (nI D) (k + 1) (nI i) a1 a2 a3 a4 a5 a6 a7 a8 a9 a10 a11 x12 a13 := by
  intro k
  induction k with
  | zero =>
    intro i x12 hik hx
    exact pk_le D i (fun _ => H x12 (fun j hj => hx j (by omega))) (fun z => absurd z (by omega))
  | succ k ih =>
    intro i x12 hik hx
    refine pk_le D i (fun z => absurd z (by omega)) (fun _ => ⟨pk_in i 4 (by omega), pk_in i 3 (by omega), ?_⟩)
    have w := hW i (by omega)
    have nn := hN i (by omega)
    have e4 : (4 : Int32) * nI (W i) = nI (4 * W i) := pk_mul 4 _
    rw [nI_clamp (show i < 2 ^ 31 by omega), hx i (Nat.le_refl i), h13 i (by omega), e4, nI_add, nI_clamp (show 4 * W i + N i < 2 ^ 31 by omega), nI_1, nI_clamp (show i + 1 < 2 ^ 31 by omega), h3 _ w _ nn]
    refine ⟨pk_in (4 * W i + N i) 4096 (by omega), pk_in (i + 1) 4 (by omega), nm_e (nm_e (ih (i + 1) _ (by omega) (fun j hj => ?_)))⟩
    by_cases z : j = i + 1
    · rw [z, pk_us, hs i (by omega)]
    · rw [pk_un z]; exact hx j (by omega)
theorem tq_fw19s {post : St2 → Prop} {md pf pi ac cc al st dp : Int32} {a1 a2 a3 a4 a5 a6 a7 a8 a9 a10 a11 a12 a13 : Nat → Int32} {x1 : Int32} {f q k : Nat} (hq : q < 84) (hk : k < 3) (H : wX_findWay_19 post x1 md pf pi ac cc al st dp f (tq_pI q) (nI k + (-1)) a1 a2 a3 a4 a5 a6 a7 a8 a9 a10 a11 a12 (upd a13 k (nI (q % 4)))) : wX_findWay_19 post x1 md pf pi ac cc al st dp (f + 1) (nI q) (nI k) a1 a2 a3 a4 a5 a6 a7 a8 a9 a10 a11 a12 a13 := by
  refine br_f (nI_pos (by omega)) (tq_nameOf hq ⟨pk_in k 3 hk, ?_⟩)
  rw [nI_clamp (show k < 2 ^ 31 by omega)]
  exact nm_e (tq_parentOf hq (nm_e H))
theorem tq_fw19e {post : St2 → Prop} {md pf pi ac cc al st dp : Int32} {a1 a2 a3 a4 a5 a6 a7 a8 a9 a10 a11 a12 a13 : Nat → Int32} {x3 : Int32} {f t : Nat} (ht : t < 9) (H : ∃ g, wX_findWay_63 post md pf pi ac cc al st dp g 0 a1 a2 a3 a4 a5 a6 a7 a8 a9 a10 a11 (upd a12 0 (a6 t)) a13) : wX_findWay_19 post (nI t) md pf pi ac cc al st dp (f + 1) x3 (nI 0 + (-1)) a1 a2 a3 a4 a5 a6 a7 a8 a9 a10 a11 a12 a13 := by
  refine br_t (by decide) ⟨pk_in t 9 ht, ?_⟩
  rw [nI_clamp (show t < 2 ^ 31 by omega)]
  exact nm_e H
theorem tq_findWay {post : St2 → Prop} {md pf pi ac cc al st dp : Int32} {a1 a2 a3 a4 a5 a6 a7 a8 a9 a10 a11 a12 a13 : Nat → Int32} {v : Int32} {n E t p r : Nat} (hp : tq_hp v n E md a1 a2 a3 a4) (h6 : a6 t = nI r) (hr : r < n) (ht : t < 9) (hpp : p < 84)
    (H : ∀ x12 x13, (∀ j, j ≤ tq_lv p → x12 j = nI (tq_wy E r p j)) → (∀ j, j < tq_lv p → x13 j = nI (tq_nm p j)) → post (md, pf, pi, ac, cc, al, st, nI (tq_lv p), a1, a2, a3, a4, a5, a6, a7, a8, a9, a10, a11, x12, x13)) : wpX_findWay post (md, pf, pi, ac, cc, al, st, dp, a1, a2, a3, a4, a5, a6, a7, a8, a9, a10, a11, a12, a13) (nI t) (nI p) := by
  have lv := tq_lv_le p
  have K : ∀ x13, (∀ j, j < tq_lv p → x13 j = nI (tq_nm p j)) → ∃ g, wX_findWay_63 post md pf pi ac cc al st (nI (tq_lv p)) g 0 a1 a2 a3 a4 a5 a6 a7 a8 a9 a10 a11 (upd a12 0 (a6 t)) x13 := fun x13 h13 =>
    ⟨tq_lv p + 1, tq_fw63 (n := n) (E := E) (W := tq_wy E r p) (N := tq_nm p) lv.2 hp.1.2.1 (fun c hc => (hp.2.1.2 c hc).2.2) (fun j _ => tq_wy_lt hp.1 hr hpp j) (fun j _ => tq_nm_lt hpp j) (fun j _ => rfl) h13 (fun x12 h12 => H x12 x13 h12 h13) (tq_lv p) 0 _ (by omega)
      (fun j hj => by rw [show j = 0 by omega, pk_us, h6]; rfl)⟩
  have m1 : nI (tq_lv p) - 1 = nI (tq_lv p - 1) := pk_sub (a := tq_lv p) (b := 1) lv.1
  unfold wpX_findWay
  refine tq_levelOf hpp (nm_r m1 ?_)
  rcases (show p < 4 ∨ (4 ≤ p ∧ p < 20) ∨ 20 ≤ p by omega) with h | h | h
  · have l : tq_lv p = 1 := by unfold tq_lv; rw [if_pos h]
    have P := K (upd a13 0 (nI (p % 4))) (fun j hj => by
      rw [l] at hj
      rw [show j = 0 by omega, pk_us]
      unfold tq_nm
      rw [if_pos h, Nat.mod_eq_of_lt h])
    rw [l] at P ⊢
    exact ⟨2, tq_fw19s hpp (by omega) (tq_fw19e ht P)⟩
  · have l : tq_lv p = 2 := by unfold tq_lv; rw [if_neg (by omega), if_pos h.2]
    have e : tq_pI p = nI ((p - 4) / 4) := by unfold tq_pI tq_par; rw [if_neg (by omega), if_pos h.2]
    have P := K (upd (upd a13 1 (nI (p % 4))) 0 (nI ((p - 4) / 4 % 4))) (fun j hj => by
      rw [l] at hj
      unfold tq_nm
      rw [if_neg (by omega), if_pos h.2]
      by_cases z : j = 0
      · rw [z, pk_us, if_pos rfl, Nat.mod_eq_of_lt (by omega)]
      · rw [pk_un z, show j = 1 by omega, pk_us, if_neg (by omega)])
    rw [l] at P ⊢
    refine ⟨3, tq_fw19s hpp (by omega) ?_⟩
    rw [e, show nI (2 - 1) + (-1) = nI 0 by decide]
    exact tq_fw19s (by omega) (by omega) (tq_fw19e ht P)
  · have l : tq_lv p = 3 := by unfold tq_lv; rw [if_neg (by omega), if_neg (by omega)]
    have e : tq_pI p = nI (4 + (p - 20) / 4) := by unfold tq_pI tq_par; rw [if_neg (by omega), if_neg (by omega)]
    have e' : tq_pI (4 + (p - 20) / 4) = nI ((4 + (p - 20) / 4 - 4) / 4) := by unfold tq_pI tq_par; rw [if_neg (by omega), if_pos (by omega)]
    have P := K (upd (upd (upd a13 2 (nI (p % 4))) 1 (nI ((4 + (p - 20) / 4) % 4))) 0 (nI ((4 + (p - 20) / 4 - 4) / 4 % 4))) (fun j hj => by
      rw [l] at hj
      unfold tq_nm
      rw [if_neg (by omega), if_neg (by omega)]
      by_cases z : j = 0
      · rw [z, pk_us, if_pos rfl, show (4 + (p - 20) / 4 - 4) / 4 % 4 = (p - 20) / 16 by omega]
      · rw [pk_un z, if_neg z]
        by_cases z1 : j = 1
        · rw [z1, pk_us, if_pos rfl, show (4 + (p - 20) / 4) % 4 = (p - 20) / 4 % 4 by omega]
        · rw [pk_un z1, if_neg z1, show j = 2 by omega, pk_us])
    rw [l] at P ⊢
    refine ⟨4, tq_fw19s hpp (by omega) ?_⟩
    rw [e, show nI (3 - 1) + (-1) = nI 1 by decide]
    refine tq_fw19s (by omega) (by omega) ?_
    rw [e', show nI 1 + (-1) = nI 0 by decide]
    exact tq_fw19s (by omega) (by omega) (tq_fw19e ht P)
theorem tq_cAt {post : Int32 → St2 → Prop} {md pf pi ac cc al st dp : Int32} {a1 a2 a3 a4 a5 a6 a7 a8 a9 a10 a11 a12 a13 : Nat → Int32} {v : Int32} {n E t p r : Nat} (hp : tq_hp v n E md a1 a2 a3 a4) (h6 : a6 t = nI r) (hr : r < n) (ht : t < 9) (hpp : p < 84)
    (H : ∀ dp' x12 x13, post (nI (tq_at E r p)) (md, pf, pi, ac, cc, al, st, dp', a1, a2, a3, a4, a5, a6, a7, a8, a9, a10, a11, x12, x13)) : wpX_contentAt post (md, pf, pi, ac, cc, al, st, dp, a1, a2, a3, a4, a5, a6, a7, a8, a9, a10, a11, a12, a13) (nI t) (nI p) := by
  have lv := tq_lv_le p
  unfold wpX_contentAt
  refine tq_findWay hp h6 hr ht hpp (fun x12 x13 h12 h13 => ⟨pk_in (tq_lv p) 4 (by omega), ?_⟩)
  rw [nI_clamp (show tq_lv p < 2 ^ 31 by omega), h12 _ (Nat.le_refl _)]
  exact H _ x12 x13
end
section
/-! the same, for the second copy of findWay (printed by ways2.py out of 05) -/
theorem tq_fw632 {post : St2 → Prop} {md pf pi ac cc al st : Int32} {a1 a2 a3 a4 a5 a6 a7 a8 a9 a10 a11 a13 : Nat → Int32} {n E D : Nat} {W N : Nat → Nat} (hD : D ≤ 3) (hn : n ≤ 1000) (h3 : ∀ c, c < n → ∀ j, j < 4 → a3 (4 * c + j) = nI (tq_k E c j))
    (hW : ∀ j, j ≤ D → W j < n) (hN : ∀ j, j < D → N j < 4) (hs : ∀ j, j < D → W (j + 1) = tq_k E (W j) (N j)) (h13 : ∀ j, j < D → a13 j = nI (N j))
    (H : ∀ x12, (∀ j, j ≤ D → x12 j = nI (W j)) → post (md, pf, pi, ac, cc, al, st, nI D, a1, a2, a3, a4, a5, a6, a7, a8, a9, a10, a11, x12, a13)) :
    ∀ k i x12, i + k = D → (∀ j, j ≤ i → x12 j = nI (W j)) → wX_findWay_2_63 post md pf pi ac cc al st (nI D) (k + 1) (nI i) a1 a2 a3 a4 a5 a6 a7 a8 a9 a10 a11 x12 a13 := by
  intro k
  induction k with
  | zero =>
    intro i x12 hik hx
    exact pk_le D i (fun _ => H x12 (fun j hj => hx j (by omega))) (fun z => absurd z (by omega))
  | succ k ih =>
    intro i x12 hik hx
    refine pk_le D i (fun z => absurd z (by omega)) (fun _ => ⟨pk_in i 4 (by omega), pk_in i 3 (by omega), ?_⟩)
    have w := hW i (by omega)
    have nn := hN i (by omega)
    have e4 : (4 : Int32) * nI (W i) = nI (4 * W i) := pk_mul 4 _
    rw [nI_clamp (show i < 2 ^ 31 by omega), hx i (Nat.le_refl i), h13 i (by omega), e4, nI_add, nI_clamp (show 4 * W i + N i < 2 ^ 31 by omega), nI_1, nI_clamp (show i + 1 < 2 ^ 31 by omega), h3 _ w _ nn]
    refine ⟨pk_in (4 * W i + N i) 4096 (by omega), pk_in (i + 1) 4 (by omega), nm_e (nm_e (ih (i + 1) _ (by omega) (fun j hj => ?_)))⟩
    by_cases z : j = i + 1
    · rw [z, pk_us, hs i (by omega)]
    · rw [pk_un z]; exact hx j (by omega)
theorem tq_fw19s2 {post : St2 → Prop} {md pf pi ac cc al st dp : Int32} {a1 a2 a3 a4 a5 a6 a7 a8 a9 a10 a11 a12 a13 : Nat → Int32} {x1 : Int32} {f q k : Nat} (hq : q < 84) (hk : k < 3) (H : wX_findWay_2_19 post x1 md pf pi ac cc al st dp f (tq_pI q) (nI k + (-1)) a1 a2 a3 a4 a5 a6 a7 a8 a9 a10 a11 a12 (upd a13 k (nI (q % 4)))) : wX_findWay_2_19 post x1 md pf pi ac cc al st dp (f + 1) (nI q) (nI k) a1 a2 a3 a4 a5 a6 a7 a8 a9 a10 a11 a12 a13 := by
  refine br_f (nI_pos (by omega)) (tq_nameOf hq ⟨pk_in k 3 hk, ?_⟩)
  rw [nI_clamp (show k < 2 ^ 31 by omega)]
  exact nm_e (tq_parentOf hq (nm_e H))
theorem tq_fw19e2 {post : St2 → Prop} {md pf pi ac cc al st dp : Int32} {a1 a2 a3 a4 a5 a6 a7 a8 a9 a10 a11 a12 a13 : Nat → Int32} {x3 : Int32} {f t : Nat} (ht : t < 9) (H : ∃ g, wX_findWay_2_63 post md pf pi ac cc al st dp g 0 a1 a2 a3 a4 a5 a6 a7 a8 a9 a10 a11 (upd a12 0 (a6 t)) a13) : wX_findWay_2_19 post (nI t) md pf pi ac cc al st dp (f + 1) x3 (nI 0 + (-1)) a1 a2 a3 a4 a5 a6 a7 a8 a9 a10 a11 a12 a13 := by
  refine br_t (by decide) ⟨pk_in t 9 ht, ?_⟩
  rw [nI_clamp (show t < 2 ^ 31 by omega)]
  exact nm_e H
theorem tq_findWay2 {post : St2 → Prop} {md pf pi ac cc al st dp : Int32} {a1 a2 a3 a4 a5 a6 a7 a8 a9 a10 a11 a12 a13 : Nat → Int32} {v : Int32} {n E t p r : Nat} (hp : tq_hp v n E md a1 a2 a3 a4) (h6 : a6 t = nI r) (hr : r < n) (ht : t < 9) (hpp : p < 84)
    (H : ∀ x12 x13, (∀ j, j ≤ tq_lv p → x12 j = nI (tq_wy E r p j)) → (∀ j, j < tq_lv p → x13 j = nI (tq_nm p j)) → post (md, pf, pi, ac, cc, al, st, nI (tq_lv p), a1, a2, a3, a4, a5, a6, a7, a8, a9, a10, a11, x12, x13)) : wpX_findWay_2 post (md, pf, pi, ac, cc, al, st, dp, a1, a2, a3, a4, a5, a6, a7, a8, a9, a10, a11, a12, a13) (nI t) (nI p) := by
  have lv := tq_lv_le p
  have K : ∀ x13, (∀ j, j < tq_lv p → x13 j = nI (tq_nm p j)) → ∃ g, wX_findWay_2_63 post md pf pi ac cc al st (nI (tq_lv p)) g 0 a1 a2 a3 a4 a5 a6 a7 a8 a9 a10 a11 (upd a12 0 (a6 t)) x13 := fun x13 h13 =>
    ⟨tq_lv p + 1, tq_fw632 (n := n) (E := E) (W := tq_wy E r p) (N := tq_nm p) lv.2 hp.1.2.1 (fun c hc => (hp.2.1.2 c hc).2.2) (fun j _ => tq_wy_lt hp.1 hr hpp j) (fun j _ => tq_nm_lt hpp j) (fun j _ => rfl) h13 (fun x12 h12 => H x12 x13 h12 h13) (tq_lv p) 0 _ (by omega)
      (fun j hj => by rw [show j = 0 by omega, pk_us, h6]; rfl)⟩
  have m1 : nI (tq_lv p) - 1 = nI (tq_lv p - 1) := pk_sub (a := tq_lv p) (b := 1) lv.1
  unfold wpX_findWay_2
  refine tq_levelOf hpp (nm_r m1 ?_)
  rcases (show p < 4 ∨ (4 ≤ p ∧ p < 20) ∨ 20 ≤ p by omega) with h | h | h
  · have l : tq_lv p = 1 := by unfold tq_lv; rw [if_pos h]
    have P := K (upd a13 0 (nI (p % 4))) (fun j hj => by
      rw [l] at hj
      rw [show j = 0 by omega, pk_us]
      unfold tq_nm
      rw [if_pos h, Nat.mod_eq_of_lt h])
    rw [l] at P ⊢
    exact ⟨2, tq_fw19s2 hpp (by omega) (tq_fw19e2 ht P)⟩
  · have l : tq_lv p = 2 := by unfold tq_lv; rw [if_neg (by omega), if_pos h.2]
    have e : tq_pI p = nI ((p - 4) / 4) := by unfold tq_pI tq_par; rw [if_neg (by omega), if_pos h.2]
    have P := K (upd (upd a13 1 (nI (p % 4))) 0 (nI ((p - 4) / 4 % 4))) (fun j hj => by
      rw [l] at hj
      unfold tq_nm
      rw [if_neg (by omega), if_pos h.2]
      by_cases z : j = 0
      · rw [z, pk_us, if_pos rfl, Nat.mod_eq_of_lt (by omega)]
      · rw [pk_un z, show j = 1 by omega, pk_us, if_neg (by omega)])
    rw [l] at P ⊢
    refine ⟨3, tq_fw19s2 hpp (by omega) ?_⟩
    rw [e, show nI (2 - 1) + (-1) = nI 0 by decide]
    exact tq_fw19s2 (by omega) (by omega) (tq_fw19e2 ht P)
  · have l : tq_lv p = 3 := by unfold tq_lv; rw [if_neg (by omega), if_neg (by omega)]
    have e : tq_pI p = nI (4 + (p - 20) / 4) := by unfold tq_pI tq_par; rw [if_neg (by omega), if_neg (by omega)]
    have e' : tq_pI (4 + (p - 20) / 4) = nI ((4 + (p - 20) / 4 - 4) / 4) := by unfold tq_pI tq_par; rw [if_neg (by omega), if_pos (by omega)]
    have P := K (upd (upd (upd a13 2 (nI (p % 4))) 1 (nI ((4 + (p - 20) / 4) % 4))) 0 (nI ((4 + (p - 20) / 4 - 4) / 4 % 4))) (fun j hj => by
      rw [l] at hj
      unfold tq_nm
      rw [if_neg (by omega), if_neg (by omega)]
      by_cases z : j = 0
      · rw [z, pk_us, if_pos rfl, show (4 + (p - 20) / 4 - 4) / 4 % 4 = (p - 20) / 16 by omega]
      · rw [pk_un z, if_neg z]
        by_cases z1 : j = 1
        · rw [z1, pk_us, if_pos rfl, show (4 + (p - 20) / 4) % 4 = (p - 20) / 4 % 4 by omega]
        · rw [pk_un z1, if_neg z1, show j = 2 by omega, pk_us])
    rw [l] at P ⊢
    refine ⟨4, tq_fw19s2 hpp (by omega) ?_⟩
    rw [e, show nI (3 - 1) + (-1) = nI 1 by decide]
    refine tq_fw19s2 (by omega) (by omega) ?_
    rw [e', show nI 1 + (-1) = nI 0 by decide]
    exact tq_fw19s2 (by omega) (by omega) (tq_fw19e2 ht P)
theorem tq_cAt2 {post : Int32 → St2 → Prop} {md pf pi ac cc al st dp : Int32} {a1 a2 a3 a4 a5 a6 a7 a8 a9 a10 a11 a12 a13 : Nat → Int32} {v : Int32} {n E t p r : Nat} (hp : tq_hp v n E md a1 a2 a3 a4) (h6 : a6 t = nI r) (hr : r < n) (ht : t < 9) (hpp : p < 84)
    (H : ∀ dp' x12 x13, post (nI (tq_at E r p)) (md, pf, pi, ac, cc, al, st, dp', a1, a2, a3, a4, a5, a6, a7, a8, a9, a10, a11, x12, x13)) : wpX_contentAt_2 post (md, pf, pi, ac, cc, al, st, dp, a1, a2, a3, a4, a5, a6, a7, a8, a9, a10, a11, a12, a13) (nI t) (nI p) := by
  have lv := tq_lv_le p
  unfold wpX_contentAt_2
  refine tq_findWay2 hp h6 hr ht hpp (fun x12 x13 h12 h13 => ⟨pk_in (tq_lv p) 4 (by omega), ?_⟩)
  rw [nI_clamp (show tq_lv p < 2 ^ 31 by omega), h12 _ (Nat.le_refl _)]
  exact H _ x12 x13
end
section
/-! makeRoom, with, setContent -/
theorem tq_makeRoom {post : St2 → Prop} {md pf pi ac cc al st dp : Int32} {a1 a2 a3 a4 a5 a6 a7 a8 a9 a10 a11 a12 a13 : Nat → Int32} {n : Nat} (q : Nat) (hm : md = nI n) (h : n + q ≤ 1024) (H : post (md, pf, pi, ac, cc, al, st, dp, a1, a2, a3, a4, a5, a6, a7, a8, a9, a10, a11, a12, a13)) : wpX_makeRoom post (md, pf, pi, ac, cc, al, st, dp, a1, a2, a3, a4, a5, a6, a7, a8, a9, a10, a11, a12, a13) (nI q) := by
  refine br_t ?_ H
  rw [hm, nI_add]
  exact nI_le h (by decide)
theorem tq_contentF {post : Int32 → St2 → Prop} {md pf pi ac cc al st dp : Int32} {a1 a2 a3 a4 a5 a6 a7 a8 a9 a10 a11 a12 a13 : Nat → Int32} {v : Int32} {n E : Nat} (a b c d : Nat) (hp : tq_hp v n E md a1 a2 a3 a4) (hn : n < 1000) (ha : a < n) (hb : b < n) (hc : c < n) (hd : d < n)
    (H : ∀ md' a1' a2' a3' a4', tq_hp v (tq_ct n E (tq_mk 1 a b c d)).2.1 (tq_ct n E (tq_mk 1 a b c d)).2.2 md' a1' a2' a3' a4' → post (nI (tq_ct n E (tq_mk 1 a b c d)).1) (md', pf, pi, ac, cc, al, st, dp, a1', a2', a3', a4', a5, a6, a7, a8, a9, a10, a11, a12, a13)) :
    wpX_content post (md, pf, pi, ac, cc, al, st, dp, a1, a2, a3, a4, a5, a6, a7, a8, a9, a10, a11, a12, a13) 2 0 (nI a) (nI b) (nI c) (nI d) := by
  have P := tq_content 1 a b c d hp hn ⟨by omega, by omega, ha, hb, hc, hd⟩ H
  have e1 : nI (tq_kw 1) = 2 := by decide
  have e2 : tq_nw v 1 = 0 := rfl
  rw [e1, e2] at P
  exact P
theorem tq_with {post : Int32 → St2 → Prop} {md pf pi ac cc al st dp : Int32} {a1 a2 a3 a4 a5 a6 a7 a8 a9 a10 a11 a12 a13 : Nat → Int32} {v : Int32} {n E f j c : Nat} (hp : tq_hp v n E md a1 a2 a3 a4) (hn : n < 1000) (hf : f < n) (hj : j < 4) (hc : c < n)
    (H : ∀ md' a1' a2' a3' a4', tq_hp v (tq_wi n E f j c).2.1 (tq_wi n E f j c).2.2 md' a1' a2' a3' a4' → post (nI (tq_wi n E f j c).1) (md', pf, pi, ac, cc, al, st, dp, a1', a2', a3', a4', a5, a6, a7, a8, a9, a10, a11, a12, a13)) :
    wpX_with post (md, pf, pi, ac, cc, al, st, dp, a1, a2, a3, a4, a5, a6, a7, a8, a9, a10, a11, a12, a13) (nI f) (nI j) (nI c) := by
  have k := (hp.1.2.2.2.2.1 f hf).2
  have A := (hp.2.1.2 f hf).2.2
  have k0 := k 0 (by omega)
  have k1 := k 1 (by omega)
  have k2 := k 2 (by omega)
  have k3 := k 3 (by omega)
  have e0 : a3 (nI (4 * f)).toNatClampNeg = nI (tq_k E f 0) := by rw [nI_clamp (by omega)]; exact A 0 (by omega)
  have e1 : a3 (nI (4 * f) + 1).toNatClampNeg = nI (tq_k E f 1) := by rw [show nI (4 * f) + 1 = nI (4 * f + 1) from nI_add _ 1, nI_clamp (by omega)]; exact A 1 (by omega)
  have e2 : a3 (nI (4 * f) + 2).toNatClampNeg = nI (tq_k E f 2) := by rw [show nI (4 * f) + 2 = nI (4 * f + 2) from nI_add _ 2, nI_clamp (by omega)]; exact A 2 (by omega)
  have e3 : a3 (nI (4 * f) + 3).toNatClampNeg = nI (tq_k E f 3) := by rw [show nI (4 * f) + 3 = nI (4 * f + 3) from nI_add _ 3, nI_clamp (by omega)]; exact A 3 (by omega)
  have r0 : vp_in (nI (4 * f)) 4096 := pk_in (4 * f) 4096 (by omega)
  have r1 : vp_in (nI (4 * f) + 1) 4096 := pk_in (4 * f + 1) 4096 (by omega) (nI_add _ 1)
  have r2 : vp_in (nI (4 * f) + 2) 4096 := pk_in (4 * f + 2) 4096 (by omega) (nI_add _ 2)
  have r3 : vp_in (nI (4 * f) + 3) 4096 := pk_in (4 * f + 3) 4096 (by omega) (nI_add _ 3)
  have e4 : (4 : Int32) * nI f = nI (4 * f) := pk_mul 4 f
  have hn' : n ≤ 1000 := hp.1.2.1
  refine nm_r e4 ?_
  rcases (show j = 0 ∨ j = 1 ∨ j = 2 ∨ j = 3 by omega) with q | q | q | q
  · subst q
    refine br_t (by decide) (br_f (by decide) ⟨r1, br_f (by decide) ⟨r2, br_f (by decide) ⟨r3, ?_⟩⟩⟩)
    rw [e1, e2, e3]
    exact tq_contentF c (tq_k E f 1) (tq_k E f 2) (tq_k E f 3) hp hn hc k1 k2 k3 (fun md' a1' a2' a3' a4' h => H md' a1' a2' a3' a4' h)
  · subst q
    refine br_f (by decide) ⟨r0, br_t (by decide) (br_f (by decide) ⟨r2, br_f (by decide) ⟨r3, ?_⟩⟩)⟩
    rw [e0, e2, e3]
    exact tq_contentF (tq_k E f 0) c (tq_k E f 2) (tq_k E f 3) hp hn k0 hc k2 k3 (fun md' a1' a2' a3' a4' h => H md' a1' a2' a3' a4' h)
  · subst q
    refine br_f (by decide) ⟨r0, br_f (by decide) ⟨r1, br_t (by decide) (br_f (by decide) ⟨r3, ?_⟩)⟩⟩
    rw [e0, e1, e3]
    exact tq_contentF (tq_k E f 0) (tq_k E f 1) c (tq_k E f 3) hp hn k0 k1 hc k3 (fun md' a1' a2' a3' a4' h => H md' a1' a2' a3' a4' h)
  · subst q
    refine br_f (by decide) ⟨r0, br_f (by decide) ⟨r1, br_f (by decide) ⟨r2, br_t (by decide) ?_⟩⟩⟩
    rw [e0, e1, e2]
    exact tq_contentF (tq_k E f 0) (tq_k E f 1) (tq_k E f 2) c hp hn k0 k1 k2 hc (fun md' a1' a2' a3' a4' h => H md' a1' a2' a3' a4' h)
theorem tq_wi_n {n E : Nat} (f j c : Nat) (h1 : 1 ≤ n) : n ≤ (tq_wi n E f j c).2.1 ∧ (tq_wi n E f j c).2.1 ≤ n + 1 ∧ (tq_wi n E f j c).1 < (tq_wi n E f j c).2.1 ∧ 1 ≤ (tq_wi n E f j c).1 := tq_ct_n _ h1
theorem tq_sl_n {E0 r p : Nat} : ∀ k c n E, 1 ≤ n → c < n → n ≤ (tq_sl E0 r p k c n E).2.1 ∧ (tq_sl E0 r p k c n E).2.1 ≤ n + k ∧ (tq_sl E0 r p k c n E).1 < (tq_sl E0 r p k c n E).2.1 := by
  intro k
  induction k with
  | zero => intro c n E h1 hc; exact ⟨Nat.le_refl n, Nat.le_refl n, hc⟩
  | succ k ih =>
    intro c n E h1 hc
    have w := tq_wi_n (E := E) (tq_wy E0 r p k) (tq_nm p k) c h1
    have t := ih (tq_wi n E (tq_wy E0 r p k) (tq_nm p k) c).1 (tq_wi n E (tq_wy E0 r p k) (tq_nm p k) c).2.1 (tq_wi n E (tq_wy E0 r p k) (tq_nm p k) c).2.2 (by omega) w.2.2.1
    unfold tq_sl
    omega
theorem tq_sc17 {post : St2 → Prop} {pf pi ac cc al st dp : Int32} {a5 a6 a7 a8 a9 a10 a11 a12 a13 : Nat → Int32} {v : Int32} {t E0 r p n0 D : Nat} (ht : t < 9) (hD : D ≤ 3) (hpp : p < 84) (hW : ∀ j, j < D → tq_wy E0 r p j < n0) (h12 : ∀ j, j < D → a12 j = nI (tq_wy E0 r p j)) (h13 : ∀ j, j < D → a13 j = nI (tq_nm p j)) :
    ∀ k c n E md a1 a2 a3 a4, k ≤ D → tq_hp v n E md a1 a2 a3 a4 → n0 ≤ n → n + k ≤ 1000 → c < n →
      (∀ md' a1' a2' a3' a4', tq_hp v (tq_sl E0 r p k c n E).2.1 (tq_sl E0 r p k c n E).2.2 md' a1' a2' a3' a4' → post (md', pf, pi, ac, cc, al, st, dp, a1', a2', a3', a4', a5, upd a6 t (nI (tq_sl E0 r p k c n E).1), a7, a8, a9, a10, a11, a12, a13)) →
      wX_setContent_17 post (nI t) (k + 1) (nI c) (nI k + (-1)) md pf pi ac cc al st dp a1 a2 a3 a4 a5 a6 a7 a8 a9 a10 a11 a12 a13 := by
  intro k
  induction k with
  | zero =>
    intro c n E md a1 a2 a3 a4 hk hp h0 hn hc H
    refine br_t (by decide) ⟨pk_in t 9 ht, ?_⟩
    rw [nI_clamp (show t < 2 ^ 31 by omega)]
    exact nm_e (H md a1 a2 a3 a4 hp)
  | succ k ih =>
    intro c n E md a1 a2 a3 a4 hk hp h0 hn hc H
    have w := tq_wi_n (E := E) (tq_wy E0 r p k) (tq_nm p k) c hp.1.1
    rw [pk_m1]
    refine br_f (nI_pos (by omega)) ⟨pk_in k 4 (by omega), pk_in k 3 (by omega), ?_⟩
    rw [nI_clamp (show k < 2 ^ 31 by omega), h12 k (by omega), h13 k (by omega)]
    have W := hW k (by omega)
    exact tq_with hp (by omega) (by omega) (tq_nm_lt hpp k) hc (fun md' a1' a2' a3' a4' h' => nm_e (ih _ _ _ md' a1' a2' a3' a4' (by omega) h' (by omega) (by omega) w.2.2.1 H))
theorem tq_setC {post : St2 → Prop} {md pf pi ac cc al st dp : Int32} {a1 a2 a3 a4 a5 a6 a7 a8 a9 a10 a11 a12 a13 : Nat → Int32} {v : Int32} {n E t p r c : Nat} (hp : tq_hp v n E md a1 a2 a3 a4) (h6 : a6 t = nI r) (hr : r < n) (ht : t < 9) (hpp : p < 84) (hn : n ≤ 990) (hc : c < n)
    (H : ∀ md' dp' a1' a2' a3' a4' x12 x13, tq_hp v (tq_sc n E r p c).2.1 (tq_sc n E r p c).2.2 md' a1' a2' a3' a4' → post (md', pf, pi, ac, cc, al, st, dp', a1', a2', a3', a4', a5, upd a6 t (nI (tq_sc n E r p c).1), a7, a8, a9, a10, a11, x12, x13)) :
    wpX_setContent post (md, pf, pi, ac, cc, al, st, dp, a1, a2, a3, a4, a5, a6, a7, a8, a9, a10, a11, a12, a13) (nI t) (nI p) (nI c) := by
  have lv := tq_lv_le p
  have m1 : nI (tq_lv p) - 1 = nI (tq_lv p) + (-1) := by
    obtain ⟨k, hk⟩ : ∃ k, tq_lv p = k + 1 := ⟨tq_lv p - 1, by omega⟩
    rw [hk, pk_m1]
    exact nI_pred k
  unfold wpX_setContent
  refine tq_findWay2 hp h6 hr ht hpp (fun x12 x13 h12 h13 => nm_r m1 ⟨tq_lv p + 1, ?_⟩)
  exact tq_sc17 (v := v) (E0 := E) (r := r) (p := p) (n0 := n) (D := tq_lv p) ht lv.2 hpp (fun j _ => tq_wy_lt hp.1 hr hpp j) (fun j hj => h12 j (by omega)) h13 (tq_lv p) c n E _ _ _ _ _ (Nat.le_refl _) hp (Nat.le_refl _) (by omega) hc
    (fun md' a1' a2' a3' a4' h' => H md' _ a1' a2' a3' a4' x12 x13 h')
/-! the state matches the model -/
abbrev tq_F : Type := Int32 × Int32 × Int32 × Int32 × Int32 × (Nat → Int32) × (Nat → Int32) × (Nat → Int32) × (Nat → Int32)
def tq_R (n : Nat) (R : List Nat) (a6 : Nat → Int32) : Prop := R.length = 9 ∧ ∀ t, t < 9 → a6 t = nI (R.getD t 0) ∧ R.getD t 0 < n
def tq_K (K : List Bool) (a7 : Nat → Int32) : Prop := K.length = 3 ∧ ∀ k, k < 3 → a7 k = if K.getD k false = true then 1 else 0
def tq_P (P : Nat) (pf : Int32) : Prop := P ≤ 2 ∧ pf = nI P - 1
def tq_ok (v : Int32) (m : tq_M) (F : tq_F) (u : St2) : Prop := match u with
  | (md, pf, pi, ac, cc, al, st, dp, a1, a2, a3, a4, a5, a6, a7, a8, a9, a10, a11, a12, a13) => tq_hp v m.1 m.2.1 md a1 a2 a3 a4 ∧ tq_R m.1 m.2.2.1 a6 ∧ tq_K m.2.2.2.1 a7 ∧ tq_P m.2.2.2.2 pf ∧ F = (pi, ac, cc, al, st, a8, a9, a10, a11)
theorem tq_getD_set {α : Type} (d : α) : ∀ (l : List α) (t : Nat) (x : α) (k : Nat), t < l.length → (l.set t x).getD k d = if k = t then x else l.getD k d := by
  intro l
  induction l with
  | nil => intro t x k h; exact absurd h (Nat.not_lt_zero t)
  | cons y l ih =>
    intro t x k h
    cases t with
    | zero =>
      cases k with
      | zero => rfl
      | succ k => rfl
    | succ t =>
      cases k with
      | zero => rfl
      | succ k =>
        have t2 := ih t x k (Nat.lt_of_succ_lt_succ h)
        by_cases z : k = t
        · rw [if_pos z] at t2
          rw [if_pos (by omega)]
          exact t2
        · rw [if_neg z] at t2
          rw [if_neg (by omega)]
          exact t2
theorem tq_R_set {n n' : Nat} {R : List Nat} {a6 : Nat → Int32} {t x : Nat} (h : tq_R n R a6) (ht : t < 9) (hn : n ≤ n') (hx : x < n') : tq_R n' (R.set t x) (upd a6 t (nI x)) := by
  obtain ⟨h1, h2⟩ := h
  refine ⟨by rw [List.length_set]; exact h1, fun k hk => ?_⟩
  rw [tq_getD_set 0 R t x k (by omega)]
  by_cases z : k = t
  · rw [if_pos z, z, pk_us]; exact ⟨rfl, hx⟩
  · rw [if_neg z, pk_un z]
    exact ⟨(h2 k hk).1, Nat.lt_of_lt_of_le (h2 k hk).2 hn⟩
theorem tq_R_mono {n n' : Nat} {R : List Nat} {a6 : Nat → Int32} (h : tq_R n R a6) (hn : n ≤ n') : tq_R n' R a6 := ⟨h.1, fun k hk => ⟨(h.2 k hk).1, Nat.lt_of_lt_of_le (h.2 k hk).2 hn⟩⟩
/-- pure facts of a model state -/
def tq_G (m : tq_M) : Prop := tq_H m.1 m.2.1 ∧ (∀ t, t < 9 → tq_rt m t < m.1) ∧ m.2.2.2.2 ≤ 2
theorem tq_ok_G {v : Int32} {m : tq_M} {F : tq_F} {u : St2} (h : tq_ok v m F u) : tq_G m := by
  obtain ⟨md, pf, pi, ac, cc, al, st, dp, a1, a2, a3, a4, a5, a6, a7, a8, a9, a10, a11, a12, a13⟩ := u
  obtain ⟨h1, h2, h3, h4, h5⟩ := h
  exact ⟨h1.1, fun t ht => (h2.2 t ht).2, h4.1⟩
theorem tq_a_lt {m : tq_M} {t p : Nat} (h : tq_G m) (ht : t < 9) (hp : p < 84) : tq_a m t p < m.1 := tq_at_lt h.1 (h.2.1 t ht) hp
theorem tq_set_n {m : tq_M} {t p c : Nat} (h : tq_G m) (hc : c < m.1) : m.1 ≤ (tq_set m t p c).1 ∧ (tq_set m t p c).1 ≤ m.1 + 3 := by
  have lv := tq_lv_le p
  have t := tq_sl_n (E0 := m.2.1) (r := tq_rt m t) (p := p) (tq_lv p) c m.1 m.2.1 h.1.1 hc
  exact ⟨t.1, Nat.le_trans t.2.1 (by omega)⟩
theorem tq_ctM_n {m : tq_M} (e : Nat) (h : tq_G m) : m.1 ≤ (tq_ctM m e).1 ∧ (tq_ctM m e).1 ≤ m.1 + 1 ∧ tq_ctI m e < (tq_ctM m e).1 := by
  have t := tq_ct_n (E := m.2.1) e h.1.1
  exact ⟨t.1, t.2.1, t.2.2.1⟩
theorem tq_contentAt {post : Int32 → St2 → Prop} {v : Int32} {m : tq_M} {F : tq_F} {u : St2} {t p : Nat} (h : tq_ok v m F u) (ht : t < 9) (hp : p < 84) (H : ∀ u', tq_ok v m F u' → post (nI (tq_a m t p)) u') : wpX_contentAt post u (nI t) (nI p) := by
  obtain ⟨md, pf, pi, ac, cc, al, st, dp, a1, a2, a3, a4, a5, a6, a7, a8, a9, a10, a11, a12, a13⟩ := u
  obtain ⟨h1, h2, h3, h4, h5⟩ := h
  exact tq_cAt h1 (h2.2 t ht).1 (h2.2 t ht).2 ht hp (fun dp' x12 x13 => H _ ⟨h1, h2, h3, h4, h5⟩)
theorem tq_contentAt2 {post : Int32 → St2 → Prop} {v : Int32} {m : tq_M} {F : tq_F} {u : St2} {t p : Nat} (h : tq_ok v m F u) (ht : t < 9) (hp : p < 84) (H : ∀ u', tq_ok v m F u' → post (nI (tq_a m t p)) u') : wpX_contentAt_2 post u (nI t) (nI p) := by
  obtain ⟨md, pf, pi, ac, cc, al, st, dp, a1, a2, a3, a4, a5, a6, a7, a8, a9, a10, a11, a12, a13⟩ := u
  obtain ⟨h1, h2, h3, h4, h5⟩ := h
  exact tq_cAt2 h1 (h2.2 t ht).1 (h2.2 t ht).2 ht hp (fun dp' x12 x13 => H _ ⟨h1, h2, h3, h4, h5⟩)
theorem tq_setContent {post : St2 → Prop} {v : Int32} {m : tq_M} {F : tq_F} {u : St2} {t p c : Nat} (h : tq_ok v m F u) (ht : t < 9) (hp : p < 84) (hn : m.1 ≤ 990) (hc : c < m.1) (H : ∀ u', tq_ok v (tq_set m t p c) F u' → post u') : wpX_setContent post u (nI t) (nI p) (nI c) := by
  have G := tq_ok_G h
  have B := tq_sl_n (E0 := m.2.1) (r := tq_rt m t) (p := p) (tq_lv p) c m.1 m.2.1 G.1.1 hc
  obtain ⟨md, pf, pi, ac, cc, al, st, dp, a1, a2, a3, a4, a5, a6, a7, a8, a9, a10, a11, a12, a13⟩ := u
  obtain ⟨h1, h2, h3, h4, h5⟩ := h
  exact tq_setC h1 (h2.2 t ht).1 (h2.2 t ht).2 ht hp hn hc (fun md' dp' a1' a2' a3' a4' x12 x13 h' => H _ ⟨h', tq_R_set h2 ht B.1 B.2.2, h3, h4, h5⟩)
theorem tq_contentW {post : Int32 → St2 → Prop} {v x : Int32} {m : tq_M} {F : tq_F} {u : St2} {k : Nat} (h : tq_ok v m F u) (hn : m.1 < 1000) (hk : k < 8) (hx : x = v + nI k) (H : ∀ u', tq_ok v (tq_ctM m (tq_mk (k + 2) 0 0 0 0)) F u' → post (nI (tq_ctI m (tq_mk (k + 2) 0 0 0 0))) u') : wpX_content post u 1 x 0 0 0 0 := by
  have G := tq_ok_G h
  have B := tq_ct_n (E := m.2.1) (tq_mk (k + 2) 0 0 0 0) G.1.1
  have g1 := G.1.1
  obtain ⟨md, pf, pi, ac, cc, al, st, dp, a1, a2, a3, a4, a5, a6, a7, a8, a9, a10, a11, a12, a13⟩ := u
  obtain ⟨h1, h2, h3, h4, h5⟩ := h
  have P := tq_content (post := post) (pf := pf) (pi := pi) (ac := ac) (cc := cc) (al := al) (st := st) (dp := dp) (a5 := a5) (a6 := a6) (a7 := a7) (a8 := a8) (a9 := a9) (a10 := a10) (a11 := a11) (a12 := a12) (a13 := a13) (k + 2) 0 0 0 0 h1 hn ⟨by omega, by omega, by omega, by omega, by omega, by omega⟩ (fun md' a1' a2' a3' a4' h' => H _ ⟨h', tq_R_mono h2 B.1, h3, h4, h5⟩)
  have e1 : tq_kw (k + 2) = 1 := by unfold tq_kw; rw [if_neg (by omega), if_neg (by omega)]
  have e2 : tq_nw v (k + 2) = x := by unfold tq_nw; rw [if_neg (by omega), hx]; rfl
  rw [e1, e2] at P
  exact P
theorem tq_contentE {post : Int32 → St2 → Prop} {v : Int32} {m : tq_M} {F : tq_F} {u : St2} (h : tq_ok v m F u) (hn : m.1 < 1000) (H : ∀ u', tq_ok v (tq_ctM m (tq_mk 1 0 0 0 0)) F u' → post (nI (tq_ctI m (tq_mk 1 0 0 0 0))) u') : wpX_content post u 2 0 0 0 0 0 := by
  have G := tq_ok_G h
  have B := tq_ct_n (E := m.2.1) (tq_mk 1 0 0 0 0) G.1.1
  have g1 := G.1.1
  obtain ⟨md, pf, pi, ac, cc, al, st, dp, a1, a2, a3, a4, a5, a6, a7, a8, a9, a10, a11, a12, a13⟩ := u
  obtain ⟨h1, h2, h3, h4, h5⟩ := h
  exact tq_contentF (v := v) 0 0 0 0 h1 hn (by omega) (by omega) (by omega) (by omega) (fun md' a1' a2' a3' a4' h' => H _ ⟨h', tq_R_mono h2 B.1, h3, h4, h5⟩)
theorem tq_room {post : St2 → Prop} {v : Int32} {m : tq_M} {F : tq_F} {u : St2} (q : Nat) (h : tq_ok v m F u) (hn : m.1 + q ≤ 1024) (H : ∀ u', tq_ok v m F u' → post u') : wpX_makeRoom post u (nI q) := by
  obtain ⟨md, pf, pi, ac, cc, al, st, dp, a1, a2, a3, a4, a5, a6, a7, a8, a9, a10, a11, a12, a13⟩ := u
  have h' := h
  obtain ⟨h1, h2, h3, h4, h5⟩ := h
  exact tq_makeRoom q h1.2.1.1 hn (H _ h')
/-- reading kindOf and numberOf at a content -/
theorem tq_kind_at {v : Int32} {m : tq_M} {F : tq_F} {md pf pi ac cc al st dp : Int32} {a1 a2 a3 a4 a5 a6 a7 a8 a9 a10 a11 a12 a13 : Nat → Int32} {c : Nat} (h : tq_ok v m F (md, pf, pi, ac, cc, al, st, dp, a1, a2, a3, a4, a5, a6, a7, a8, a9, a10, a11, a12, a13)) (hc : c < m.1) : vp_in (nI c) 1024 ∧ a1 (nI c).toNatClampNeg = nI (tq_kc m c) ∧ a2 (nI c).toNatClampNeg = tq_nw v (tq_w m.2.1 c) := by
  obtain ⟨h1, h2, h3, h4, h5⟩ := h
  have hn := h1.1.2.1
  rw [nI_clamp (show c < 2 ^ 31 by omega)]
  exact ⟨pk_in c 1024 (by omega), (h1.2.1.2 c hc).1, (h1.2.1.2 c hc).2.1⟩
theorem tq_kc_lt (m : tq_M) (c : Nat) : tq_kc m c < 3 := by
  unfold tq_kc tq_kn tq_kw
  split <;> (try split) <;> omega
end
section
/-! questions that change nothing -/
theorem tq_badSide0 {post : Int32 → Prop} {u : St2} {s : Nat} (hs : s < 2) (h : post 0) : wpX_badSide post u (nI s) := by
  obtain ⟨md, pf, pi, ac, cc, al, st, dp, a1, a2, a3, a4, a5, a6, a7, a8, a9, a10, a11, a12, a13⟩ := u
  exact br_f (nI_pos (by omega)) (br_t (nI_le (b := 1) (by omega) (by decide)) h)
theorem tq_badPath0 {post : Int32 → Prop} {u : St2} {p : Nat} (hp : p < 84) (h : post 0) : wpX_badPath post u (nI p) := by
  obtain ⟨md, pf, pi, ac, cc, al, st, dp, a1, a2, a3, a4, a5, a6, a7, a8, a9, a10, a11, a12, a13⟩ := u
  exact br_f (nI_pos (by omega)) (br_t (nI_lt (b := 84) (by omega) (by decide)) h)
theorem tq_badPlace0 {post : Int32 → Prop} {u : St2} {k : Nat} (hk : k < 3) (h : post 0) : wpX_badPlace post u (nI k) := by
  obtain ⟨md, pf, pi, ac, cc, al, st, dp, a1, a2, a3, a4, a5, a6, a7, a8, a9, a10, a11, a12, a13⟩ := u
  exact br_f (nI_pos (by omega)) (br_t (nI_le (b := 2) (by omega) (by decide)) h)
def tq_bI (b : Bool) : Int32 := if b = true then 1 else 0
theorem tq_hasParent {post : Int32 → St2 → Prop} {v : Int32} {m : tq_M} {F : tq_F} {u : St2} {s p : Nat} (h : tq_ok v m F u) (hs : s < 2) (hp : p < 84) (H : ∀ u', tq_ok v m F u' → post (tq_bI (tq_hpar m s p)) u') : wpX_hasParent post u (nI s) (nI p) := by
  have G := tq_ok_G h
  obtain ⟨md, pf, pi, ac, cc, al, st, dp, a1, a2, a3, a4, a5, a6, a7, a8, a9, a10, a11, a12, a13⟩ := u
  unfold wpX_hasParent
  refine tq_parentOf hp ?_
  by_cases z : p < 4
  · have e : tq_pI p = -1 := by unfold tq_pI; rw [if_pos z]
    have e2 : tq_hpar m s p = true := by unfold tq_hpar; rw [if_pos z]
    rw [e]
    rw [e2] at H
    exact br_t rfl (H _ h)
  · have e : tq_pI p = nI (tq_par p) := by unfold tq_pI; rw [if_neg z]
    have hq : tq_par p < 20 := by unfold tq_par; split <;> omega
    have e2 : tq_hpar m s p = decide (tq_kc m (tq_a m s (tq_par p)) = 2) := by unfold tq_hpar; rw [if_neg z]
    rw [e]
    refine br_f (tq_ne1 (by omega)) (tq_contentAt h (by omega) (by omega) (fun u' h' => ?_))
    obtain ⟨mdx, pfx, pix, acx, ccx, alx, stx, dpx, a1x, a2x, a3x, a4x, a5x, a6x, a7x, a8x, a9x, a10x, a11x, a12x, a13x⟩ := u'
    have k := tq_kind_at h' (tq_a_lt G (show s < 9 by omega) (show tq_par p < 84 by omega))
    have kl := tq_kc_lt m (tq_a m s (tq_par p))
    refine ⟨k.1, ?_⟩
    rw [k.2.1]
    rw [e2] at H
    refine pk_eq (tq_kc m (tq_a m s (tq_par p))) 2 (fun y => ?_) (fun y => ?_)
    · rw [decide_eq_true y] at H
      exact H _ h'
    · rw [decide_eq_false y] at H
      exact H _ h'
theorem tq_wt12 {post : Int32 → Prop} {md pf pi ac cc al st dp : Int32} {a1 a2 a3 a4 a5 a6 a7 a8 a9 a10 a11 a12 a13 : Nat → Int32} {v : Int32} {n E c : Nat} (hp : tq_hp v n E md a1 a2 a3 a4) (hc : c < n) (h0 : c ≠ 0) :
    ∀ f k s, k + f = 16 → post (nI (tq_wl E c f k s)) → wX_weight_12 post (nI c) md pf pi ac cc al st dp a1 a2 a3 a4 a5 a6 a7 a8 a9 a10 a11 a12 a13 (f + 1) (nI s) (nI k) := by
  have hn := hp.1.2.1
  intro f
  induction f with
  | zero =>
    intro k s hk h
    exact pk_le 16 k (fun _ => h) (fun z => absurd z (by omega))
  | succ f ih =>
    intro k s hk h
    have g1 := (hp.1.2.2.2.2.1 c hc).2 (k / 4) (by omega)
    have g2 := (hp.1.2.2.2.2.1 _ g1).2 (k % 4) (by omega)
    have A1 := (hp.2.1.2 c hc).2.2 (k / 4) (by omega)
    have A2 := (hp.2.1.2 _ g1).2.2 (k % 4) (by omega)
    have er : nI k - nI k / 4 * 4 = nI (k % 4) := pk_rem (a := k) (d := 4) (by omega) (by decide) (by decide)
    have ed : nI k / 4 = nI (k / 4) := pk_div (a := k) (d := 4) (by omega) (by decide) (by decide)
    have e4 : (4 : Int32) * nI c = nI (4 * c) := pk_mul 4 c
    have e5 : (4 : Int32) * nI (tq_k E c (k / 4)) = nI (4 * tq_k E c (k / 4)) := pk_mul 4 _
    have L : ∀ s1, tq_w1 E c k s = s1 → wX_weight_69 post (wX_weight_12 post (nI c) md pf pi ac cc al st dp a1 a2 a3 a4 a5 a6 a7 a8 a9 a10 a11 a12 a13 (f + 1)) (nI c) (nI k) (nI (tq_k E (tq_k E c (k / 4)) (k % 4))) (nI s1) md pf pi ac cc al st dp a1 a2 a3 a4 a5 a6 a7 a8 a9 a10 a11 a12 a13 := by
      intro s1 hs1
      have h' : post (nI (tq_wl E c f (k + 1) (tq_w2 E c k s))) := h
      unfold tq_w2 at h'
      rw [hs1] at h'
      refine pk_eq (tq_k E (tq_k E c (k / 4)) (k % 4)) 0 (fun z => nm_r (nI_1 k) (ih (k + 1) s1 (by omega) ?_)) (fun z => nm_r (nI_1 s1) (nm_r (nI_1 k) (ih (k + 1) (s1 + 1) (by omega) ?_)))
      · rw [if_pos z] at h'; exact h'
      · rw [if_neg z] at h'; exact h'
    refine pk_le 16 k (fun z => absurd z (by omega)) (fun _ => br_f (nI_ne0 (by omega) (by omega)) ⟨by decide, ?_⟩)
    rw [er, ed, e4, nI_add, nI_clamp (show 4 * c + k / 4 < 2 ^ 31 by omega), A1]
    refine ⟨pk_in (4 * c + k / 4) 4096 (by omega), nm_e ⟨by decide, ?_⟩⟩
    rw [e5, nI_add, nI_clamp (show 4 * tq_k E c (k / 4) + k % 4 < 2 ^ 31 by omega), A2]
    refine ⟨pk_in (4 * tq_k E c (k / 4) + k % 4) 4096 (by omega), nm_e ⟨by decide, pk_eq (k % 4) 0 (fun z => pk_eq (tq_k E c (k / 4)) 0 (fun z1 => L s ?_) (fun z1 => ?_)) (fun z => L s ?_)⟩⟩
    · unfold tq_w1; rw [if_pos z, if_pos z1]
    · rw [nI_1]
      exact L (s + 1) (by unfold tq_w1; rw [if_pos z, if_neg z1])
    · unfold tq_w1; rw [if_neg z]
theorem tq_wght {post : Int32 → Prop} {md pf pi ac cc al st dp : Int32} {a1 a2 a3 a4 a5 a6 a7 a8 a9 a10 a11 a12 a13 : Nat → Int32} {v : Int32} {n E c : Nat} (hp : tq_hp v n E md a1 a2 a3 a4) (hc : c < n) (h : post (nI (tq_wt E c))) : wpX_weight post (md, pf, pi, ac, cc, al, st, dp, a1, a2, a3, a4, a5, a6, a7, a8, a9, a10, a11, a12, a13) (nI c) := by
  have hn := hp.1.2.1
  unfold tq_wt at h
  refine pk_eq c 0 (fun z => ⟨1, ?_⟩) (fun z => ⟨17, ?_⟩)
  · rw [if_pos z] at h
    rw [z]
    exact br_f (by decide) (br_t rfl h)
  · rw [if_neg z] at h
    exact tq_wt12 hp hc z 16 0 1 (by omega) h
theorem tq_weight {post : Int32 → Prop} {v : Int32} {m : tq_M} {F : tq_F} {u : St2} {c : Nat} (h : tq_ok v m F u) (hc : c < m.1) (H : post (nI (tq_wt m.2.1 c))) : wpX_weight post u (nI c) := by
  obtain ⟨md, pf, pi, ac, cc, al, st, dp, a1, a2, a3, a4, a5, a6, a7, a8, a9, a10, a11, a12, a13⟩ := u
  exact tq_wght h.1 hc H
theorem tq_wot4 {post : Int32 → Prop} {md pf pi ac cc al st dp : Int32} {a1 a2 a3 a4 a5 a6 a7 a8 a9 a10 a11 a12 a13 : Nat → Int32} {v : Int32} {n E t r : Nat} (hp : tq_hp v n E md a1 a2 a3 a4) (ht : t < 9) (h6 : a6 t = nI r) (hr : r < n) :
    ∀ f j s, j + f = 4 → post (nI (tq_tl E r f j s)) → wX_weightOfTree_4 post (nI t) md pf pi ac cc al st dp a1 a2 a3 a4 a5 a6 a7 a8 a9 a10 a11 a12 a13 (f + 1) (nI s) (nI j) := by
  have hn := hp.1.2.1
  intro f
  induction f with
  | zero =>
    intro j s hj h
    exact pk_le 4 j (fun _ => h) (fun z => absurd z (by omega))
  | succ f ih =>
    intro j s hj h
    have g1 := (hp.1.2.2.2.2.1 r hr).2 j (by omega)
    have A1 := (hp.2.1.2 r hr).2.2 j (by omega)
    have e4 : (4 : Int32) * nI r = nI (4 * r) := pk_mul 4 r
    refine pk_le 4 j (fun z => absurd z (by omega)) (fun _ => ⟨pk_in t 9 ht, ?_⟩)
    rw [nI_clamp (show t < 2 ^ 31 by omega), h6, e4, nI_add, nI_clamp (show 4 * r + j < 2 ^ 31 by omega), A1]
    exact ⟨pk_in (4 * r + j) 4096 (by omega), tq_wght hp g1 (nm_r (nI_add s _) (nm_r (nI_1 j) (ih (j + 1) _ (by omega) h)))⟩
theorem tq_wot {post : Int32 → Prop} {v : Int32} {m : tq_M} {F : tq_F} {u : St2} {t : Nat} (h : tq_ok v m F u) (ht : t < 9) (H : post (nI (tq_tw m.2.1 (tq_rt m t)))) : wpX_weightOfTree post u (nI t) := by
  obtain ⟨md, pf, pi, ac, cc, al, st, dp, a1, a2, a3, a4, a5, a6, a7, a8, a9, a10, a11, a12, a13⟩ := u
  obtain ⟨h1, h2, h3, h4, h5⟩ := h
  exact ⟨5, tq_wot4 h1 ht (h2.2 t ht).1 (h2.2 t ht).2 4 0 0 (by omega) H⟩
/-! standsIn, heightOf -/
def tq_qI (q : Nat) : Int32 := if q = 0 then -1 else nI (q - 1)
theorem tq_si33 {post : Int32 → Prop} {md pf pi ac cc al st dp : Int32} {a1 a2 a3 a4 a5 a6 a7 a8 a9 a10 a11 a12 a13 : Nat → Int32} {p q : Nat} (hp : p < 84) (hq : q ≤ 84) (h : post (tq_bI (decide (q = p + 1)))) : wX_standsIn_33 post (nI p) (tq_qI q) md pf pi ac cc al st dp a1 a2 a3 a4 a5 a6 a7 a8 a9 a10 a11 a12 a13 := by
  unfold tq_qI
  by_cases z : q = 0
  · rw [if_pos z]
    rw [decide_eq_false (by omega)] at h
    exact br_f (fun e => tq_ne1 (show p < 2 ^ 31 by omega) e.symm) h
  · rw [if_neg z]
    refine pk_eq (q - 1) p (fun y => ?_) (fun y => ?_)
    · rw [decide_eq_true (by omega)] at h; exact h
    · rw [decide_eq_false (by omega)] at h; exact h
theorem tq_si5 {post : Int32 → Prop} {md pf pi ac cc al st dp : Int32} {a1 a2 a3 a4 a5 a6 a7 a8 a9 a10 a11 a12 a13 : Nat → Int32} {p : Nat} (hp : p < 84) :
    ∀ f q i, i + f = 3 → q ≤ 84 → post (tq_bI (tq_si p f q)) → wX_standsIn_5 post (nI p) md pf pi ac cc al st dp a1 a2 a3 a4 a5 a6 a7 a8 a9 a10 a11 a12 a13 (f + 1) (tq_qI q) (nI i) := by
  intro f
  induction f with
  | zero =>
    intro q i hi hq h
    exact pk_le 3 i (fun _ => tq_si33 hp hq h) (fun z => absurd z (by omega))
  | succ f ih =>
    intro q i hi hq h
    unfold tq_si at h
    refine pk_le 3 i (fun z => absurd z (by omega)) (fun _ => ?_)
    by_cases z : q = 0
    · rw [if_pos z] at h
      subst z
      exact br_t rfl (tq_si33 hp hq h)
    · rw [if_neg z] at h
      have e : tq_qI q = nI (q - 1) := by unfold tq_qI; rw [if_neg z]
      rw [e]
      refine br_f (tq_ne1 (by omega)) (pk_eq (q - 1) p (fun y => ?_) (fun y => ?_))
      · rw [if_pos (by omega)] at h
        rw [← e]
        exact tq_si33 hp hq (by rw [decide_eq_true (by omega)]; exact h)
      · rw [if_neg (by omega)] at h
        refine tq_parentOf (by omega) (nm_r (nI_1 i) ?_)
        have e2 : tq_pI (q - 1) = tq_qI (tq_up q) := by
          unfold tq_pI tq_qI tq_up
          by_cases y2 : q < 5
          · rw [if_pos (by omega), if_pos y2, if_pos rfl]
          · rw [if_neg (by omega), if_neg y2, if_neg (by omega)]
            rfl
        have up : tq_up q ≤ 84 := by
          unfold tq_up tq_par
          split
          · omega
          · split <;> omega
        rw [e2]
        exact ih (tq_up q) (i + 1) (by omega) up h
theorem tq_standsIn {post : Int32 → Prop} {u : St2} {p q : Nat} (hp : p < 84) (hq : q < 84) (h : post (tq_bI (tq_si p 3 (q + 1)))) : wpX_standsIn post u (nI q) (nI p) := by
  obtain ⟨md, pf, pi, ac, cc, al, st, dp, a1, a2, a3, a4, a5, a6, a7, a8, a9, a10, a11, a12, a13⟩ := u
  exact ⟨4, tq_si5 hp 3 (q + 1) 0 (by omega) (by omega) h⟩
theorem tq_hasS {post : Int32 → Prop} {md pf pi ac cc al st dp : Int32} {a1 a2 a3 a4 a5 a6 a7 a8 a9 a10 a11 a12 a13 : Nat → Int32} {v : Int32} {n E c : Nat} (hp : tq_hp v n E md a1 a2 a3 a4) (hc : c < n) (h : post (tq_bI (tq_hs E c))) : wpX_hasSomething post (md, pf, pi, ac, cc, al, st, dp, a1, a2, a3, a4, a5, a6, a7, a8, a9, a10, a11, a12, a13) (nI c) := by
  have hn := hp.1.2.1
  have A := (hp.2.1.2 c hc).2.2
  have k := (hp.1.2.2.2.2.1 c hc).2
  have k0 := k 0 (by omega)
  have k1 := k 1 (by omega)
  have k2 := k 2 (by omega)
  have k3 := k 3 (by omega)
  have e0 : a3 (nI (4 * c)).toNatClampNeg = nI (tq_k E c 0) := by rw [nI_clamp (by omega)]; exact A 0 (by omega)
  have e1 : a3 (nI (4 * c) + 1).toNatClampNeg = nI (tq_k E c 1) := by rw [show nI (4 * c) + 1 = nI (4 * c + 1) from nI_add _ 1, nI_clamp (by omega)]; exact A 1 (by omega)
  have e2 : a3 (nI (4 * c) + 2).toNatClampNeg = nI (tq_k E c 2) := by rw [show nI (4 * c) + 2 = nI (4 * c + 2) from nI_add _ 2, nI_clamp (by omega)]; exact A 2 (by omega)
  have e3 : a3 (nI (4 * c) + 3).toNatClampNeg = nI (tq_k E c 3) := by rw [show nI (4 * c) + 3 = nI (4 * c + 3) from nI_add _ 3, nI_clamp (by omega)]; exact A 3 (by omega)
  have r0 : vp_in (nI (4 * c)) 4096 := pk_in (4 * c) 4096 (by omega)
  have r1 : vp_in (nI (4 * c) + 1) 4096 := pk_in (4 * c + 1) 4096 (by omega) (nI_add _ 1)
  have r2 : vp_in (nI (4 * c) + 2) 4096 := pk_in (4 * c + 2) 4096 (by omega) (nI_add _ 2)
  have r3 : vp_in (nI (4 * c) + 3) 4096 := pk_in (4 * c + 3) 4096 (by omega) (nI_add _ 3)
  have e4 : (4 : Int32) * nI c = nI (4 * c) := pk_mul 4 c
  unfold tq_hs at h
  refine nm_r e4 ?_
  rw [e0, e1, e2, e3]
  refine ⟨r0, pk_eq (tq_k E c 0) 0 (fun z0 => ⟨r1, pk_eq (tq_k E c 1) 0 (fun z1 => ⟨r2, pk_eq (tq_k E c 2) 0 (fun z2 => ⟨r3, pk_eq (tq_k E c 3) 0 (fun z3 => ?_) (fun z3 => ?_)⟩) (fun z2 => ?_)⟩) (fun z1 => ?_)⟩) (fun z0 => ?_)⟩
  · rw [decide_eq_false (by omega)] at h; exact h
  · rw [decide_eq_true (by omega)] at h; exact h
  · rw [decide_eq_true (by omega)] at h; exact h
  · rw [decide_eq_true (by omega)] at h; exact h
  · rw [decide_eq_true (by omega)] at h; exact h
theorem tq_ho16 {post : Int32 → Prop} {md pf pi ac cc al st dp : Int32} {a1 a2 a3 a4 a5 a6 a7 a8 a9 a10 a11 a12 a13 : Nat → Int32} {v : Int32} {n E c : Nat} (hp : tq_hp v n E md a1 a2 a3 a4) (hc : c < n) :
    ∀ f j x, j + f = 4 → post (nI (tq_hl E c f j x)) → wX_heightOf_16 post (nI c) md pf pi ac cc al st dp a1 a2 a3 a4 a5 a6 a7 a8 a9 a10 a11 a12 a13 (f + 1) (nI x) (nI j) := by
  have hn := hp.1.2.1
  intro f
  induction f with
  | zero =>
    intro j x hj h
    exact pk_le 4 j (fun _ => h) (fun z => absurd z (by omega))
  | succ f ih =>
    intro j x hj h
    have g1 := (hp.1.2.2.2.2.1 c hc).2 j (by omega)
    have A1 := (hp.2.1.2 c hc).2.2 j (by omega)
    have e4 : (4 : Int32) * nI c = nI (4 * c) := pk_mul 4 c
    refine pk_le 4 j (fun z => absurd z (by omega)) (fun _ => ?_)
    rw [e4, nI_add, nI_clamp (show 4 * c + j < 2 ^ 31 by omega), A1]
    refine ⟨pk_in (4 * c + j) 4096 (by omega), tq_hasS hp g1 ?_⟩
    have h' : post (nI (tq_hl E c f (j + 1) (if tq_hs E (tq_k E c j) = true then 3 else x))) := h
    by_cases z : tq_hs E (tq_k E c j) = true
    · rw [if_pos z] at h'
      rw [z]
      exact br_f (by decide) (nm_r (nI_1 j) (ih (j + 1) 3 (by omega) h'))
    · rw [if_neg z] at h'
      rw [Bool.eq_false_iff.mpr z]
      exact br_t rfl (nm_r (nI_1 j) (ih (j + 1) x (by omega) h'))
theorem tq_heightOf {post : Int32 → Prop} {v : Int32} {m : tq_M} {F : tq_F} {u : St2} {c : Nat} (h : tq_ok v m F u) (hc : c < m.1) (H : post (nI (tq_ht m.2.1 c))) : wpX_heightOf post u (nI c) := by
  obtain ⟨md, pf, pi, ac, cc, al, st, dp, a1, a2, a3, a4, a5, a6, a7, a8, a9, a10, a11, a12, a13⟩ := u
  unfold wpX_heightOf
  obtain ⟨h1, h2, h3, h4, h5⟩ := h
  unfold tq_ht at H
  refine tq_hasS h1 hc ?_
  by_cases z : tq_hs m.2.1 c = true
  · rw [if_pos z] at H
    rw [z]
    exact br_f (by decide) ⟨5, tq_ho16 h1 hc 4 0 2 (by omega) H⟩
  · rw [if_neg z] at H
    rw [Bool.eq_false_iff.mpr z]
    exact br_t rfl ⟨5, tq_ho16 h1 hc 4 0 1 (by omega) H⟩
theorem tq_ht_le {E c : Nat} : tq_ht E c ≤ 3 := by
  have t : ∀ f j x, x ≤ 3 → tq_hl E c f j x ≤ 3 := by
    intro f
    induction f with
    | zero => intro j x h; exact h
    | succ f ih =>
      intro j x h
      unfold tq_hl
      exact ih _ _ (by split <;> omega)
  exact t 4 0 _ (by split <;> omega)
end
section
/-! the ops one by one -/
def tq_S (v : Int32) (m : tq_M) (u : St2) : Prop := ∃ F, tq_ok v m F u
theorem tq_e1 : Int32.ofInt (-1000000001) = -1000000001 := by decide
theorem tq_e2 : Int32.ofInt (-1000000002) = -1000000002 := by decide
theorem tq_e3 : Int32.ofInt (-1000000003) = -1000000003 := by decide
theorem tq_e4 : Int32.ofInt (-1000000004) = -1000000004 := by decide
theorem tq_iN (n : Nat) : Int32.ofInt (Int.ofNat n) = nI n := Int32.ofInt_eq_ofNat
theorem tq_i0 : Int32.ofInt 0 = 0 := by decide
theorem tq_i1 : Int32.ofInt 1 = 1 := by decide
theorem tq_nf {b : Bool} (h : ¬ b = false) : b = true := by cases b <;> simp_all
theorem tq_wWrite {post : Int32 → St2 → Prop} {v x : Int32} {m m' : tq_M} {u : St2} {s p k : Nat} {r : Int} (h : tq_S v m u) (hf : tq_write s p k m = some (r, m')) (hx : 0 ≤ r → x = v + nI k)
    (H : ∀ u', tq_S v m' u' → post (Int32.ofInt r) u') : wpX_write post u (nI s) (nI p) x := by
  obtain ⟨F, h⟩ := h
  have G := tq_ok_G h
  unfold tq_write at hf
  by_cases g : s < 2 ∧ p < 84 ∧ k < 8 ∧ m.1 ≤ 900
  case neg => rw [if_neg g] at hf; exact absurd hf.symm (Option.some_ne_none _)
  rw [if_pos g] at hf
  have hf := Option.some.inj hf
  have hal := tq_a_lt G (show s < 9 by omega) g.2.1
  obtain ⟨md, pf, pi, ac, cc, al, st, dp, a1, a2, a3, a4, a5, a6, a7, a8, a9, a10, a11, a12, a13⟩ := u
  unfold wpX_write
  refine tq_badSide0 g.1 (br_t rfl (tq_badPath0 g.2.1 (br_t rfl (tq_hasParent h g.1 g.2.1 (fun u1 h1 => ?_)))))
  obtain ⟨mdb, pfb, pib, acb, ccb, alb, stb, dpb, a1b, a2b, a3b, a4b, a5b, a6b, a7b, a8b, a9b, a10b, a11b, a12b, a13b⟩ := u1
  by_cases z : tq_hpar m s p = false
  · rw [if_pos z] at hf
    obtain ⟨rfl, rfl⟩ := Prod.mk.inj hf
    have t := H _ ⟨F, h1⟩
    rw [tq_e2] at t
    rw [z]
    exact br_t rfl t
  · rw [if_neg z] at hf
    rw [tq_nf z]
    refine br_f (by decide) (tq_contentAt h1 (by omega) g.2.1 (fun u2 h2 => ?_))
    obtain ⟨mdc, pfc, pic, acc, ccc, alc, stc, dpc, a1c, a2c, a3c, a4c, a5c, a6c, a7c, a8c, a9c, a10c, a11c, a12c, a13c⟩ := u2
    have k2 := tq_kind_at h2 hal
    have kl := tq_kc_lt m (tq_a m s p)
    refine ⟨k2.1, nm_r k2.2.1 ?_⟩
    by_cases z2 : tq_kc m (tq_a m s p) = 2
    · rw [if_pos z2] at hf
      obtain ⟨rfl, rfl⟩ := Prod.mk.inj hf
      have t := H _ ⟨F, h2⟩
      rw [tq_e3] at t
      exact br_t (by rw [z2]; rfl) t
    · rw [if_neg z2] at hf
      obtain ⟨rfl, rfl⟩ := Prod.mk.inj hf
      have c1 := tq_ctM_n (tq_mk (k + 2) 0 0 0 0) G
      refine br_f (fun e => z2 ((nI_eq (b := 2) (by omega) (by decide)).mp e)) (tq_room 8 h2 (by omega) (fun u3 h3 => ?_))
      obtain ⟨mdd, pfd, pid, acd, ccd, ald, std, dpd, a1d, a2d, a3d, a4d, a5d, a6d, a7d, a8d, a9d, a10d, a11d, a12d, a13d⟩ := u3
      refine tq_contentW h3 (by omega) g.2.2.1 (hx (Int.natCast_nonneg _)) (fun u4 h4 => ?_)
      obtain ⟨mde, pfe, pie, ace, cce, ale, ste, dpe, a1e, a2e, a3e, a4e, a5e, a6e, a7e, a8e, a9e, a10e, a11e, a12e, a13e⟩ := u4
      refine tq_setContent h4 (by omega) g.2.1 (by omega) c1.2.2 (fun u5 h5 => ?_)
      obtain ⟨mdf, pff, pif, acf, ccf, alf, stf, dpf, a1f, a2f, a3f, a4f, a5f, a6f, a7f, a8f, a9f, a10f, a11f, a12f, a13f⟩ := u5
      have t := H _ ⟨F, h5⟩
      rw [tq_iN] at t
      exact t
theorem tq_wFolder {post : Int32 → St2 → Prop} {v : Int32} {m m' : tq_M} {u : St2} {s p : Nat} {r : Int} (h : tq_S v m u) (hf : tq_folder s p m = some (r, m'))
    (H : ∀ u', tq_S v m' u' → post (Int32.ofInt r) u') : wpX_folder post u (nI s) (nI p) := by
  obtain ⟨F, h⟩ := h
  have G := tq_ok_G h
  unfold tq_folder at hf
  by_cases g : s < 2 ∧ p < 84 ∧ m.1 ≤ 900
  case neg => rw [if_neg g] at hf; exact absurd hf.symm (Option.some_ne_none _)
  rw [if_pos g] at hf
  have hf := Option.some.inj hf
  have hal := tq_a_lt G (show s < 9 by omega) g.2.1
  obtain ⟨md, pf, pi, ac, cc, al, st, dp, a1, a2, a3, a4, a5, a6, a7, a8, a9, a10, a11, a12, a13⟩ := u
  unfold wpX_folder
  refine tq_badSide0 g.1 (br_t rfl (tq_badPath0 g.2.1 (br_t rfl (tq_hasParent h g.1 g.2.1 (fun u1 h1 => ?_)))))
  obtain ⟨mdb, pfb, pib, acb, ccb, alb, stb, dpb, a1b, a2b, a3b, a4b, a5b, a6b, a7b, a8b, a9b, a10b, a11b, a12b, a13b⟩ := u1
  by_cases z : tq_hpar m s p = false
  · rw [if_pos z] at hf
    obtain ⟨rfl, rfl⟩ := Prod.mk.inj hf
    have t := H _ ⟨F, h1⟩
    rw [tq_e2] at t
    rw [z]
    exact br_t rfl t
  · rw [if_neg z] at hf
    rw [tq_nf z]
    refine br_f (by decide) (tq_contentAt2 h1 (by omega) g.2.1 (fun u2 h2 => ?_))
    obtain ⟨mdc, pfc, pic, acc, ccc, alc, stc, dpc, a1c, a2c, a3c, a4c, a5c, a6c, a7c, a8c, a9c, a10c, a11c, a12c, a13c⟩ := u2
    refine pk_eq (tq_a m s p) 0 (fun z2 => ?_) (fun z2 => ?_)
    · rw [if_neg (fun y => y z2)] at hf
      obtain ⟨rfl, rfl⟩ := Prod.mk.inj hf
      have c1 := tq_ctM_n (tq_mk 1 0 0 0 0) G
      refine tq_room 8 h2 (by omega) (fun u3 h3 => ?_)
      obtain ⟨mdd, pfd, pid, acd, ccd, ald, std, dpd, a1d, a2d, a3d, a4d, a5d, a6d, a7d, a8d, a9d, a10d, a11d, a12d, a13d⟩ := u3
      refine tq_contentE h3 (by omega) (fun u4 h4 => ?_)
      obtain ⟨mde, pfe, pie, ace, cce, ale, ste, dpe, a1e, a2e, a3e, a4e, a5e, a6e, a7e, a8e, a9e, a10e, a11e, a12e, a13e⟩ := u4
      refine tq_setContent h4 (by omega) g.2.1 (by omega) c1.2.2 (fun u5 h5 => ?_)
      obtain ⟨mdf, pff, pif, acf, ccf, alf, stf, dpf, a1f, a2f, a3f, a4f, a5f, a6f, a7f, a8f, a9f, a10f, a11f, a12f, a13f⟩ := u5
      have t := H _ ⟨F, h5⟩
      rw [tq_i0] at t
      exact t
    · rw [if_pos z2] at hf
      obtain ⟨rfl, rfl⟩ := Prod.mk.inj hf
      have t := H _ ⟨F, h2⟩
      rw [tq_e3] at t
      exact t
theorem tq_wRemove {post : Int32 → St2 → Prop} {v : Int32} {m m' : tq_M} {u : St2} {s p : Nat} {r : Int} (h : tq_S v m u) (hf : tq_remove s p m = some (r, m'))
    (H : ∀ u', tq_S v m' u' → post (Int32.ofInt r) u') : wpX_remove post u (nI s) (nI p) := by
  obtain ⟨F, h⟩ := h
  have G := tq_ok_G h
  unfold tq_remove at hf
  by_cases g : s < 2 ∧ p < 84 ∧ m.1 ≤ 900
  case neg => rw [if_neg g] at hf; exact absurd hf.symm (Option.some_ne_none _)
  rw [if_pos g] at hf
  have hf := Option.some.inj hf
  have hal := tq_a_lt G (show s < 9 by omega) g.2.1
  have hn := G.1.1
  obtain ⟨md, pf, pi, ac, cc, al, st, dp, a1, a2, a3, a4, a5, a6, a7, a8, a9, a10, a11, a12, a13⟩ := u
  unfold wpX_remove
  refine tq_badSide0 g.1 (br_t rfl (tq_badPath0 g.2.1 (br_t rfl (tq_contentAt2 h (by omega) g.2.1 (fun u1 h1 => ?_)))))
  obtain ⟨mdb, pfb, pib, acb, ccb, alb, stb, dpb, a1b, a2b, a3b, a4b, a5b, a6b, a7b, a8b, a9b, a10b, a11b, a12b, a13b⟩ := u1
  refine pk_eq (tq_a m s p) 0 (fun z => ?_) (fun z => ?_)
  · rw [if_pos z] at hf
    obtain ⟨rfl, rfl⟩ := Prod.mk.inj hf
    have t := H _ ⟨F, h1⟩
    rw [tq_e4] at t
    exact t
  · rw [if_neg z] at hf
    obtain ⟨rfl, rfl⟩ := Prod.mk.inj hf
    refine tq_weight h1 hal (tq_room 8 h1 (by omega) (fun u3 h3 => ?_))
    obtain ⟨mdd, pfd, pid, acd, ccd, ald, std, dpd, a1d, a2d, a3d, a4d, a5d, a6d, a7d, a8d, a9d, a10d, a11d, a12d, a13d⟩ := u3
    refine tq_setContent (c := 0) h3 (by omega) g.2.1 (by omega) (by omega) (fun u5 h5 => ?_)
    obtain ⟨mdf, pff, pif, acf, ccf, alf, stf, dpf, a1f, a2f, a3f, a4f, a5f, a6f, a7f, a8f, a9f, a10f, a11f, a12f, a13f⟩ := u5
    have t := H _ ⟨F, h5⟩
    rw [tq_iN] at t
    exact t
theorem tq_refused {post : Int32 → St2 → Prop} {v : Int32} {m : tq_M} {F : tq_F} {u : St2} {s p q : Nat} (h : tq_ok v m F u) (hs : s < 2) (hp : p < 84) (hq : q < 84)
    (H : ∀ u', tq_ok v m F u' → post (Int32.ofInt (tq_ref s p q m)) u') : wpX_refused post u (nI s) (nI p) (nI q) := by
  have G := tq_ok_G h
  have hal := tq_a_lt G (show s < 9 by omega) hp
  have hal2 := tq_a_lt G (show s < 9 by omega) hq
  have hn := G.1.2.1
  obtain ⟨md, pf, pi, ac, cc, al, st, dp, a1, a2, a3, a4, a5, a6, a7, a8, a9, a10, a11, a12, a13⟩ := u
  unfold wpX_refused
  unfold tq_ref at H
  refine tq_badSide0 hs (br_t rfl (tq_badPath0 hp (br_t rfl (tq_badPath0 hq (br_t rfl (tq_contentAt2 h (by omega) hp (fun u1 h1 => ?_)))))))
  obtain ⟨mdb, pfb, pib, acb, ccb, alb, stb, dpb, a1b, a2b, a3b, a4b, a5b, a6b, a7b, a8b, a9b, a10b, a11b, a12b, a13b⟩ := u1
  refine pk_eq (tq_a m s p) 0 (fun z => ?_) (fun z => ?_)
  · rw [if_pos z, tq_e4] at H
    exact H _ h1
  · rw [if_neg z] at H
    refine tq_hasParent h1 hs hq (fun u2 h2 => ?_)
    obtain ⟨mdc, pfc, pic, acc, ccc, alc, stc, dpc, a1c, a2c, a3c, a4c, a5c, a6c, a7c, a8c, a9c, a10c, a11c, a12c, a13c⟩ := u2
    by_cases z2 : tq_hpar m s q = false
    · rw [if_pos z2, tq_e2] at H
      rw [z2]
      exact br_t rfl (H _ h2)
    · rw [if_neg z2] at H
      rw [tq_nf z2]
      refine br_f (by decide) (tq_contentAt2 h2 (by omega) hq (fun u3 h3 => ?_))
      obtain ⟨mdd, pfd, pid, acd, ccd, ald, std, dpd, a1d, a2d, a3d, a4d, a5d, a6d, a7d, a8d, a9d, a10d, a11d, a12d, a13d⟩ := u3
      refine pk_eq (tq_a m s q) 0 (fun z3 => ?_) (fun z3 => ?_)
      · rw [if_neg (fun y => y z3)] at H
        refine tq_standsIn hp hq ?_
        by_cases z4 : tq_si p 3 (q + 1) = true
        · rw [if_pos z4, tq_e1] at H
          rw [z4]
          exact br_f (by decide) (H _ h3)
        · rw [if_neg z4] at H
          rw [Bool.eq_false_iff.mpr z4]
          have lv := tq_lv_le q
          have ht := tq_ht_le (E := m.2.1) (c := tq_a m s p)
          refine br_t rfl (tq_levelOf hq (tq_heightOf h3 hal ?_))
          refine pk_le (tq_lv q + tq_ht m.2.1 (tq_a m s p)) 4 (fun y => ?_) (fun y => ?_) (nI_add _ _)
          · rw [if_pos y, tq_i0] at H
            exact H _ h3
          · rw [if_neg (by omega), tq_e1] at H
            exact H _ h3
      · rw [if_pos z3, tq_e3] at H
        exact H _ h3
theorem tq_ref_c (s p q : Nat) (m : tq_M) : tq_ref s p q m = 0 ∨ tq_ref s p q m = -1000000001 ∨ tq_ref s p q m = -1000000002 ∨ tq_ref s p q m = -1000000003 ∨ tq_ref s p q m = -1000000004 := by
  unfold tq_ref
  repeat' split
  all_goals simp
theorem tq_wMove {post : Int32 → St2 → Prop} {v : Int32} {m m' : tq_M} {u : St2} {s p q : Nat} {r : Int} (h : tq_S v m u) (hf : tq_move s p q m = some (r, m'))
    (H : ∀ u', tq_S v m' u' → post (Int32.ofInt r) u') : wpX_move post u (nI s) (nI p) (nI q) := by
  obtain ⟨F, h⟩ := h
  have G := tq_ok_G h
  unfold tq_move at hf
  by_cases g : s < 2 ∧ p < 84 ∧ q < 84 ∧ m.1 ≤ 900
  case neg => rw [if_neg g] at hf; exact absurd hf.symm (Option.some_ne_none _)
  rw [if_pos g] at hf
  have hf := Option.some.inj hf
  have hal := tq_a_lt G (show s < 9 by omega) g.2.1
  have hn := G.1.1
  obtain ⟨md, pf, pi, ac, cc, al, st, dp, a1, a2, a3, a4, a5, a6, a7, a8, a9, a10, a11, a12, a13⟩ := u
  unfold wpX_move
  refine tq_refused h g.1 g.2.1 g.2.2.1 (fun u1 h1 => ?_)
  obtain ⟨mdb, pfb, pib, acb, ccb, alb, stb, dpb, a1b, a2b, a3b, a4b, a5b, a6b, a7b, a8b, a9b, a10b, a11b, a12b, a13b⟩ := u1
  by_cases z : tq_ref s p q m = 0
  · rw [if_pos z] at hf
    obtain ⟨rfl, rfl⟩ := Prod.mk.inj hf
    rw [z, tq_i0]
    refine br_t (by decide) (tq_room 16 h1 (by omega) (fun u2 h2 => ?_))
    obtain ⟨mdc, pfc, pic, acc, ccc, alc, stc, dpc, a1c, a2c, a3c, a4c, a5c, a6c, a7c, a8c, a9c, a10c, a11c, a12c, a13c⟩ := u2
    refine tq_contentAt2 h2 (by omega) g.2.1 (fun u3 h3 => ?_)
    obtain ⟨mdd, pfd, pid, acd, ccd, ald, std, dpd, a1d, a2d, a3d, a4d, a5d, a6d, a7d, a8d, a9d, a10d, a11d, a12d, a13d⟩ := u3
    have c1 := tq_set_n (t := s) (p := p) (c := 0) G (by omega)
    refine tq_setContent (c := 0) h3 (by omega) g.2.1 (by omega) (by omega) (fun u4 h4 => ?_)
    obtain ⟨mde, pfe, pie, ace, cce, ale, ste, dpe, a1e, a2e, a3e, a4e, a5e, a6e, a7e, a8e, a9e, a10e, a11e, a12e, a13e⟩ := u4
    refine tq_setContent h4 (by omega) g.2.2.1 (by omega) (by omega) (fun u5 h5 => ?_)
    obtain ⟨mdf, pff, pif, acf, ccf, alf, stf, dpf, a1f, a2f, a3f, a4f, a5f, a6f, a7f, a8f, a9f, a10f, a11f, a12f, a13f⟩ := u5
    have t := H _ ⟨F, h5⟩
    rw [tq_i0] at t
    exact t
  · rw [if_neg z] at hf
    obtain ⟨e1, rfl⟩ := Prod.mk.inj hf
    have t := H _ ⟨F, h1⟩
    rw [← e1] at t
    refine br_f ?_ t
    rcases tq_ref_c s p q m with y | y | y | y | y
    · exact absurd y z
    · rw [y]; decide
    · rw [y]; decide
    · rw [y]; decide
    · rw [y]; decide
theorem tq_wCopy {post : Int32 → St2 → Prop} {v : Int32} {m m' : tq_M} {u : St2} {s p q : Nat} {r : Int} (h : tq_S v m u) (hf : tq_copy s p q m = some (r, m'))
    (H : ∀ u', tq_S v m' u' → post (Int32.ofInt r) u') : wpX_copy post u (nI s) (nI p) (nI q) := by
  obtain ⟨F, h⟩ := h
  have G := tq_ok_G h
  unfold tq_copy at hf
  by_cases g : s < 2 ∧ p < 84 ∧ q < 84 ∧ m.1 ≤ 900
  case neg => rw [if_neg g] at hf; exact absurd hf.symm (Option.some_ne_none _)
  rw [if_pos g] at hf
  have hf := Option.some.inj hf
  have hal := tq_a_lt G (show s < 9 by omega) g.2.1
  have hn := G.1.1
  obtain ⟨md, pf, pi, ac, cc, al, st, dp, a1, a2, a3, a4, a5, a6, a7, a8, a9, a10, a11, a12, a13⟩ := u
  unfold wpX_copy
  refine tq_refused h g.1 g.2.1 g.2.2.1 (fun u1 h1 => ?_)
  obtain ⟨mdb, pfb, pib, acb, ccb, alb, stb, dpb, a1b, a2b, a3b, a4b, a5b, a6b, a7b, a8b, a9b, a10b, a11b, a12b, a13b⟩ := u1
  by_cases z : tq_ref s p q m = 0
  · rw [if_pos z] at hf
    obtain ⟨rfl, rfl⟩ := Prod.mk.inj hf
    rw [z, tq_i0]
    refine br_t (by decide) (tq_room 8 h1 (by omega) (fun u2 h2 => ?_))
    obtain ⟨mdc, pfc, pic, acc, ccc, alc, stc, dpc, a1c, a2c, a3c, a4c, a5c, a6c, a7c, a8c, a9c, a10c, a11c, a12c, a13c⟩ := u2
    refine tq_contentAt2 h2 (by omega) g.2.1 (fun u3 h3 => ?_)
    obtain ⟨mdd, pfd, pid, acd, ccd, ald, std, dpd, a1d, a2d, a3d, a4d, a5d, a6d, a7d, a8d, a9d, a10d, a11d, a12d, a13d⟩ := u3
    refine tq_setContent h3 (by omega) g.2.2.1 (by omega) hal (fun u5 h5 => ?_)
    obtain ⟨mdf, pff, pif, acf, ccf, alf, stf, dpf, a1f, a2f, a3f, a4f, a5f, a6f, a7f, a8f, a9f, a10f, a11f, a12f, a13f⟩ := u5
    have t := H _ ⟨F, h5⟩
    rw [tq_i0] at t
    exact t
  · rw [if_neg z] at hf
    obtain ⟨e1, rfl⟩ := Prod.mk.inj hf
    have t := H _ ⟨F, h1⟩
    rw [← e1] at t
    refine br_f ?_ t
    rcases tq_ref_c s p q m with y | y | y | y | y
    · exact absurd y z
    · rw [y]; decide
    · rw [y]; decide
    · rw [y]; decide
    · rw [y]; decide
end
section
/-! kind, number, lastKind, size, changed, twins, same, prefer, keep, restore -/
theorem tq_wKind {post : Int32 → St2 → Prop} {v : Int32} {m m' : tq_M} {u : St2} {s p : Nat} {r : Int} (h : tq_S v m u) (hf : tq_kind s p m = some (r, m'))
    (H : ∀ u', tq_S v m' u' → post (Int32.ofInt r) u') : wpX_kind post u (nI s) (nI p) := by
  obtain ⟨F, h⟩ := h
  have G := tq_ok_G h
  unfold tq_kind at hf
  by_cases g : s < 2 ∧ p < 84
  case neg => rw [if_neg g] at hf; exact absurd hf.symm (Option.some_ne_none _)
  rw [if_pos g] at hf
  obtain ⟨rfl, rfl⟩ := Prod.mk.inj (Option.some.inj hf)
  have hal := tq_a_lt G (show s < 9 by omega) g.2
  obtain ⟨md, pf, pi, ac, cc, al, st, dp, a1, a2, a3, a4, a5, a6, a7, a8, a9, a10, a11, a12, a13⟩ := u
  unfold wpX_kind
  refine tq_badSide0 g.1 (br_t rfl (tq_badPath0 g.2 (br_t rfl (tq_contentAt h (by omega) g.2 (fun u1 h1 => ?_)))))
  obtain ⟨mdb, pfb, pib, acb, ccb, alb, stb, dpb, a1b, a2b, a3b, a4b, a5b, a6b, a7b, a8b, a9b, a10b, a11b, a12b, a13b⟩ := u1
  have k2 := tq_kind_at h1 hal
  have t := H _ ⟨F, h1⟩
  rw [tq_iN] at t
  refine ⟨k2.1, ?_⟩
  rw [k2.2.1]
  exact t
theorem tq_wLast {post : Int32 → St2 → Prop} {v : Int32} {m m' : tq_M} {u : St2} {p : Nat} {r : Int} (h : tq_S v m u) (hf : tq_last p m = some (r, m'))
    (H : ∀ u', tq_S v m' u' → post (Int32.ofInt r) u') : wpX_lastKind post u (nI p) := by
  obtain ⟨F, h⟩ := h
  have G := tq_ok_G h
  unfold tq_last at hf
  by_cases g : p < 84
  case neg => rw [if_neg g] at hf; exact absurd hf.symm (Option.some_ne_none _)
  rw [if_pos g] at hf
  obtain ⟨rfl, rfl⟩ := Prod.mk.inj (Option.some.inj hf)
  have hal := tq_a_lt G (show 2 < 9 by omega) g
  obtain ⟨md, pf, pi, ac, cc, al, st, dp, a1, a2, a3, a4, a5, a6, a7, a8, a9, a10, a11, a12, a13⟩ := u
  unfold wpX_lastKind
  refine tq_badPath0 g (br_t rfl (tq_contentAt (t := 2) h (by omega) g (fun u1 h1 => ?_)))
  obtain ⟨mdb, pfb, pib, acb, ccb, alb, stb, dpb, a1b, a2b, a3b, a4b, a5b, a6b, a7b, a8b, a9b, a10b, a11b, a12b, a13b⟩ := u1
  have k2 := tq_kind_at h1 hal
  have t := H _ ⟨F, h1⟩
  rw [tq_iN] at t
  refine ⟨k2.1, ?_⟩
  rw [k2.2.1]
  exact t
def tq_nA (v : Int32) (r : Int) : Int32 := if r < 0 then Int32.ofInt r else v + Int32.ofInt r
theorem tq_wNumber {post : Int32 → St2 → Prop} {v : Int32} {m m' : tq_M} {u : St2} {s p : Nat} {r : Int} (h : tq_S v m u) (hf : tq_number s p m = some (r, m'))
    (H : ∀ u', tq_S v m' u' → post (tq_nA v r) u') : wpX_number post u (nI s) (nI p) := by
  obtain ⟨F, h⟩ := h
  have G := tq_ok_G h
  unfold tq_number at hf
  by_cases g : s < 2 ∧ p < 84
  case neg => rw [if_neg g] at hf; exact absurd hf.symm (Option.some_ne_none _)
  rw [if_pos g] at hf
  obtain ⟨e1, rfl⟩ := Prod.mk.inj (Option.some.inj hf)
  have hal := tq_a_lt G (show s < 9 by omega) g.2
  obtain ⟨md, pf, pi, ac, cc, al, st, dp, a1, a2, a3, a4, a5, a6, a7, a8, a9, a10, a11, a12, a13⟩ := u
  unfold wpX_number
  refine tq_badSide0 g.1 (br_t rfl (tq_badPath0 g.2 (br_t rfl (tq_contentAt2 h (by omega) g.2 (fun u1 h1 => ?_)))))
  obtain ⟨mdb, pfb, pib, acb, ccb, alb, stb, dpb, a1b, a2b, a3b, a4b, a5b, a6b, a7b, a8b, a9b, a10b, a11b, a12b, a13b⟩ := u1
  have k2 := tq_kind_at h1 hal
  have kl := tq_kc_lt m (tq_a m s p)
  have t := H _ ⟨F, h1⟩
  refine ⟨k2.1, ?_⟩
  rw [k2.2.1, k2.2.2]
  refine pk_eq (tq_kc m (tq_a m s p)) 1 (fun z => ⟨k2.1, ?_⟩) (fun z => ?_)
  · rw [if_pos z] at e1
    have w2 : 2 ≤ tq_w m.2.1 (tq_a m s p) := by
      unfold tq_kc tq_kn tq_kw at z
      by_cases y : tq_w m.2.1 (tq_a m s p) = 0
      · rw [if_pos y] at z; omega
      · rw [if_neg y] at z
        by_cases y1 : tq_w m.2.1 (tq_a m s p) = 1
        · rw [if_pos y1] at z; omega
        · omega
    rw [← e1] at t
    unfold tq_nA at t
    have nn : ¬ Int.ofNat (tq_w m.2.1 (tq_a m s p) - 2) < 0 := Int.not_lt.mpr (Int.natCast_nonneg _)
    rw [if_neg nn, tq_iN] at t
    unfold tq_nw
    rw [if_neg (by omega)]
    exact t
  · rw [if_neg z] at e1
    rw [← e1] at t
    exact t
theorem tq_wSize {post : Int32 → Prop} {v : Int32} {m m' : tq_M} {u : St2} {s : Nat} {r : Int} (h : tq_S v m u) (hf : tq_size s m = some (r, m'))
    (H : m' = m → post (Int32.ofInt r)) : wpX_size post u (nI s) := by
  obtain ⟨F, h⟩ := h
  unfold tq_size at hf
  by_cases g : s < 2
  case neg => rw [if_neg g] at hf; exact absurd hf.symm (Option.some_ne_none _)
  rw [if_pos g] at hf
  obtain ⟨rfl, rfl⟩ := Prod.mk.inj (Option.some.inj hf)
  obtain ⟨md, pf, pi, ac, cc, al, st, dp, a1, a2, a3, a4, a5, a6, a7, a8, a9, a10, a11, a12, a13⟩ := u
  unfold wpX_size
  have t := H rfl
  rw [tq_iN] at t
  exact tq_badSide0 g (br_t rfl (tq_wot h (by omega) t))
def tq_Wtw (post : Int32 → St2 → Prop) (x1 x2 x3 : Int32) (f : Nat) (x4 x5 : Int32) (u : St2) : Prop := match u with
  | (md, pf, pi, ac, cc, al, st, dp, a1, a2, a3, a4, a5, a6, a7, a8, a9, a10, a11, a12, a13) => wX_twins_32 post x1 x2 x3 f x4 x5 md pf pi ac cc al st dp a1 a2 a3 a4 a5 a6 a7 a8 a9 a10 a11 a12 a13
theorem tq_tw32 {post : Int32 → St2 → Prop} {v : Int32} {m : tq_M} {F : tq_F} {s p c : Nat} (hs : s < 2) (hp : p < 84) (hc : c < m.1) (h0 : c ≠ 0) :
    ∀ f q x u, q + f = 84 → tq_ok v m F u → (∀ u', tq_ok v m F u' → post (nI (tq_nl m s p c f q x)) u') → tq_Wtw post (nI s) (nI p) (nI c) (f + 1) (nI x) (nI q) u := by
  intro f
  induction f with
  | zero =>
    intro q x u hq h H
    obtain ⟨md, pf, pi, ac, cc, al, st, dp, a1, a2, a3, a4, a5, a6, a7, a8, a9, a10, a11, a12, a13⟩ := u
    exact pk_le 84 q (fun _ => H _ h) (fun z => absurd z (by omega))
  | succ f ih =>
    intro q x u hq h H
    have G := tq_ok_G h
    have hn := G.1.2.1
    have hal := tq_a_lt G (show s < 9 by omega) (show q < 84 by omega)
    obtain ⟨md, pf, pi, ac, cc, al, st, dp, a1, a2, a3, a4, a5, a6, a7, a8, a9, a10, a11, a12, a13⟩ := u
    refine pk_le 84 q (fun z => absurd z (by omega)) (fun _ => br_f (nI_ne0 (by omega) (by omega)) (tq_contentAt2 h (by omega) (by omega) (fun u1 h1 => ?_)))
    obtain ⟨mdb, pfb, pib, acb, ccb, alb, stb, dpb, a1b, a2b, a3b, a4b, a5b, a6b, a7b, a8b, a9b, a10b, a11b, a12b, a13b⟩ := u1
    have H' : ∀ u', tq_ok v m F u' → post (nI (tq_nl m s p c f (q + 1) (tq_tn m s p c q x))) u' := H
    unfold tq_tn at H'
    refine pk_eq q p (fun z => nm_r (nI_1 q) (ih (q + 1) x (mdb, pfb, pib, acb, ccb, alb, stb, dpb, a1b, a2b, a3b, a4b, a5b, a6b, a7b, a8b, a9b, a10b, a11b, a12b, a13b) (by omega) h1 ?_)) (fun z => pk_eq (tq_a m s q) c (fun y => nm_r (nI_1 x) (nm_r (nI_1 q) (ih (q + 1) (x + 1) (mdb, pfb, pib, acb, ccb, alb, stb, dpb, a1b, a2b, a3b, a4b, a5b, a6b, a7b, a8b, a9b, a10b, a11b, a12b, a13b) (by omega) h1 ?_))) (fun y => nm_r (nI_1 q) (ih (q + 1) x (mdb, pfb, pib, acb, ccb, alb, stb, dpb, a1b, a2b, a3b, a4b, a5b, a6b, a7b, a8b, a9b, a10b, a11b, a12b, a13b) (by omega) h1 ?_)))
    · rw [if_pos z] at H'; exact H'
    · rw [if_neg z, if_pos y] at H'; exact H'
    · rw [if_neg z, if_neg y] at H'; exact H'
theorem tq_wTwins {post : Int32 → St2 → Prop} {v : Int32} {m m' : tq_M} {u : St2} {s p : Nat} {r : Int} (h : tq_S v m u) (hf : tq_twins s p m = some (r, m'))
    (H : ∀ u', tq_S v m' u' → post (Int32.ofInt r) u') : wpX_twins post u (nI s) (nI p) := by
  obtain ⟨F, h⟩ := h
  have G := tq_ok_G h
  have hn := G.1.2.1
  unfold tq_twins at hf
  by_cases g : s < 2 ∧ p < 84
  case neg => rw [if_neg g] at hf; exact absurd hf.symm (Option.some_ne_none _)
  rw [if_pos g] at hf
  obtain ⟨e1, rfl⟩ := Prod.mk.inj (Option.some.inj hf)
  have hal := tq_a_lt G (show s < 9 by omega) g.2
  obtain ⟨md, pf, pi, ac, cc, al, st, dp, a1, a2, a3, a4, a5, a6, a7, a8, a9, a10, a11, a12, a13⟩ := u
  unfold wpX_twins
  refine tq_badSide0 g.1 (br_t rfl (tq_badPath0 g.2 (br_t rfl (tq_contentAt2 h (by omega) g.2 (fun u1 h1 => ?_)))))
  obtain ⟨mdb, pfb, pib, acb, ccb, alb, stb, dpb, a1b, a2b, a3b, a4b, a5b, a6b, a7b, a8b, a9b, a10b, a11b, a12b, a13b⟩ := u1
  by_cases z : tq_a m s p = 0
  · rw [if_pos z] at e1
    have t := H _ ⟨F, h1⟩
    rw [← e1, tq_i0] at t
    rw [z]
    exact ⟨1, br_f (by decide) (br_t rfl t)⟩
  · rw [if_neg z] at e1
    rw [← e1, tq_iN] at H
    exact ⟨85, tq_tw32 (v := v) (F := F) g.1 g.2 hal z 84 0 0 (mdb, pfb, pib, acb, ccb, alb, stb, dpb, a1b, a2b, a3b, a4b, a5b, a6b, a7b, a8b, a9b, a10b, a11b, a12b, a13b) (by omega) h1 (fun u' h' => H u' ⟨F, h'⟩)⟩
def tq_Wch (post : Int32 → St2 → Prop) (x1 : Int32) (f : Nat) (x2 x3 : Int32) (u : St2) : Prop := match u with
  | (md, pf, pi, ac, cc, al, st, dp, a1, a2, a3, a4, a5, a6, a7, a8, a9, a10, a11, a12, a13) => wX_changed_15 post x1 f x2 x3 md pf pi ac cc al st dp a1 a2 a3 a4 a5 a6 a7 a8 a9 a10 a11 a12 a13
theorem tq_ch15 {post : Int32 → St2 → Prop} {v : Int32} {m : tq_M} {F : tq_F} {s : Nat} (hs : s < 2) :
    ∀ f p x u, p + f = 84 → tq_ok v m F u → (∀ u', tq_ok v m F u' → post (nI (tq_cl m s f p x)) u') → tq_Wch post (nI s) (f + 1) (nI x) (nI p) u := by
  intro f
  induction f with
  | zero =>
    intro p x u hp h H
    obtain ⟨md, pf, pi, ac, cc, al, st, dp, a1, a2, a3, a4, a5, a6, a7, a8, a9, a10, a11, a12, a13⟩ := u
    exact pk_le 84 p (fun _ => H _ h) (fun z => absurd z (by omega))
  | succ f ih =>
    intro p x u hp h H
    have G := tq_ok_G h
    have hn := G.1.2.1
    have hal := tq_a_lt G (show s < 9 by omega) (show p < 84 by omega)
    have hal2 := tq_a_lt G (show 2 < 9 by omega) (show p < 84 by omega)
    have kl := tq_kc_lt m (tq_a m s p)
    have kl2 := tq_kc_lt m (tq_a m 2 p)
    obtain ⟨md, pf, pi, ac, cc, al, st, dp, a1, a2, a3, a4, a5, a6, a7, a8, a9, a10, a11, a12, a13⟩ := u
    refine pk_le 84 p (fun z => absurd z (by omega)) (fun _ => tq_contentAt2 h (by omega) (by omega) (fun u1 h1 => ?_))
    obtain ⟨mdb, pfb, pib, acb, ccb, alb, stb, dpb, a1b, a2b, a3b, a4b, a5b, a6b, a7b, a8b, a9b, a10b, a11b, a12b, a13b⟩ := u1
    refine tq_contentAt2 (t := 2) h1 (by omega) (by omega) (fun u2 h2 => ?_)
    obtain ⟨mdc, pfc, pic, acc, ccc, alc, stc, dpc, a1c, a2c, a3c, a4c, a5c, a6c, a7c, a8c, a9c, a10c, a11c, a12c, a13c⟩ := u2
    have k1 := tq_kind_at h2 hal
    have k2 := tq_kind_at h2 hal2
    have H' : ∀ u', tq_ok v m F u' → post (nI (tq_cl m s f (p + 1) (tq_df m s p x))) u' := H
    unfold tq_df at H'
    have no : (∀ u', tq_ok v m F u' → post (nI (tq_cl m s f (p + 1) x)) u') → wX_changed_70 post (wX_changed_15 post (nI s) (f + 1)) (nI s) (nI x) (nI p) mdc pfc pic acc ccc alc stc dpc a1c a2c a3c a4c a5c a6c a7c a8c a9c a10c a11c a12c a13c :=
      fun Q => br_t rfl (nm_r (nI_1 p) (ih (p + 1) x (mdc, pfc, pic, acc, ccc, alc, stc, dpc, a1c, a2c, a3c, a4c, a5c, a6c, a7c, a8c, a9c, a10c, a11c, a12c, a13c) (by omega) h2 Q))
    have ya : (∀ u', tq_ok v m F u' → post (nI (tq_cl m s f (p + 1) (x + 1))) u') → wX_changed_66 post (wX_changed_15 post (nI s) (f + 1)) (nI s) (nI x) (nI p) mdc pfc pic acc ccc alc stc dpc a1c a2c a3c a4c a5c a6c a7c a8c a9c a10c a11c a12c a13c :=
      fun Q => br_f (by decide) (nm_r (nI_1 x) (nm_r (nI_1 p) (ih (p + 1) (x + 1) (mdc, pfc, pic, acc, ccc, alc, stc, dpc, a1c, a2c, a3c, a4c, a5c, a6c, a7c, a8c, a9c, a10c, a11c, a12c, a13c) (by omega) h2 Q)))
    refine pk_eq (tq_a m s p) (tq_a m 2 p) (fun z => no ?_) (fun z => ⟨k1.1, ?_⟩)
    · rw [if_pos z] at H'; exact H'
    · rw [if_neg z] at H'
      rw [k1.2.1, k2.2.1]
      refine pk_eq (tq_kc m (tq_a m s p)) 2 (fun y => ⟨k2.1, pk_eq (tq_kc m (tq_a m 2 p)) 2 (fun y2 => no ?_) (fun y2 => ya ?_)⟩) (fun y => ya ?_)
      · rw [if_pos ⟨y, y2⟩] at H'; exact H'
      · rw [if_neg (fun t => y2 t.2)] at H'; exact H'
      · rw [if_neg (fun t => y t.1)] at H'; exact H'
theorem tq_wChanged {post : Int32 → St2 → Prop} {v : Int32} {m m' : tq_M} {u : St2} {s : Nat} {r : Int} (h : tq_S v m u) (hf : tq_changed s m = some (r, m'))
    (H : ∀ u', tq_S v m' u' → post (Int32.ofInt r) u') : wpX_changed post u (nI s) := by
  obtain ⟨F, h⟩ := h
  unfold tq_changed at hf
  by_cases g : s < 2
  case neg => rw [if_neg g] at hf; exact absurd hf.symm (Option.some_ne_none _)
  rw [if_pos g] at hf
  obtain ⟨rfl, rfl⟩ := Prod.mk.inj (Option.some.inj hf)
  rw [tq_iN] at H
  obtain ⟨md, pf, pi, ac, cc, al, st, dp, a1, a2, a3, a4, a5, a6, a7, a8, a9, a10, a11, a12, a13⟩ := u
  unfold wpX_changed
  exact tq_badSide0 g (br_t rfl ⟨85, tq_ch15 (v := v) (F := F) g 84 0 0 (md, pf, pi, ac, cc, al, st, dp, a1, a2, a3, a4, a5, a6, a7, a8, a9, a10, a11, a12, a13) (by omega) h (fun u' h' => H u' ⟨F, h'⟩)⟩)
theorem tq_wSame {post : Int32 → Prop} {v : Int32} {m m' : tq_M} {u : St2} {r : Int} (h : tq_S v m u) (hf : tq_same m = some (r, m'))
    (H : m' = m → post (Int32.ofInt r)) : wpX_same post u := by
  obtain ⟨F, h⟩ := h
  have G := tq_ok_G h
  have hn := G.1.2.1
  have g0 := G.2.1 0 (by omega)
  have g1 := G.2.1 1 (by omega)
  unfold tq_same at hf
  obtain ⟨e1, rfl⟩ := Prod.mk.inj (Option.some.inj hf)
  obtain ⟨md, pf, pi, ac, cc, al, st, dp, a1, a2, a3, a4, a5, a6, a7, a8, a9, a10, a11, a12, a13⟩ := u
  have t := H rfl
  refine pk_eq (tq_rt m 0) (tq_rt m 1) (fun z => ?_) (fun z => ?_) (h.2.1.2 0 (by omega)).1 (h.2.1.2 1 (by omega)).1
  · rw [if_pos z] at e1
    rw [← e1, tq_i1] at t
    exact t
  · rw [if_neg z] at e1
    rw [← e1, tq_i0] at t
    exact t
theorem tq_wPrefer {post : Int32 → St2 → Prop} {v x : Int32} {m m' : tq_M} {u : St2} {P : Nat} {r : Int} (h : tq_S v m u) (hf : tq_prefer P m = some (r, m')) (hx : x = nI P - 1)
    (H : ∀ u', tq_S v m' u' → post (Int32.ofInt r) u') : wpX_prefer post u x := by
  obtain ⟨F, h⟩ := h
  unfold tq_prefer at hf
  by_cases g : P ≤ 2
  case neg => rw [if_neg g] at hf; exact absurd hf.symm (Option.some_ne_none _)
  rw [if_pos g] at hf
  obtain ⟨rfl, rfl⟩ := Prod.mk.inj (Option.some.inj hf)
  rw [tq_i0] at H
  obtain ⟨md, pf, pi, ac, cc, al, st, dp, a1, a2, a3, a4, a5, a6, a7, a8, a9, a10, a11, a12, a13⟩ := u
  obtain ⟨h1, h2, h3, h4, h5⟩ := h
  have t := H (md, x, pi, ac, cc, al, st, dp, a1, a2, a3, a4, a5, a6, a7, a8, a9, a10, a11, a12, a13) ⟨F, h1, h2, h3, ⟨g, hx⟩, h5⟩
  rcases (show P = 0 ∨ P = 1 ∨ P = 2 by omega) with z | z | z
  · exact br_t (by rw [hx, z]; decide) t
  · have e : x = nI 0 := by rw [hx, z]; decide
    rw [e] at t ⊢
    exact br_f (by decide) (tq_badSide0 (by omega) (br_t rfl t))
  · have e : x = nI 1 := by rw [hx, z]; decide
    rw [e] at t ⊢
    exact br_f (by decide) (tq_badSide0 (by omega) (br_t rfl t))
theorem tq_wKeep {post : Int32 → St2 → Prop} {v : Int32} {m m' : tq_M} {u : St2} {s k : Nat} {r : Int} (h : tq_S v m u) (hf : tq_keep s k m = some (r, m'))
    (H : ∀ u', tq_S v m' u' → post (Int32.ofInt r) u') : wpX_keep post u (nI s) (nI k) := by
  obtain ⟨F, h⟩ := h
  unfold tq_keep at hf
  by_cases g : s < 2 ∧ k < 3
  case neg => rw [if_neg g] at hf; exact absurd hf.symm (Option.some_ne_none _)
  rw [if_pos g] at hf
  obtain ⟨rfl, rfl⟩ := Prod.mk.inj (Option.some.inj hf)
  rw [tq_iN] at H
  obtain ⟨md, pf, pi, ac, cc, al, st, dp, a1, a2, a3, a4, a5, a6, a7, a8, a9, a10, a11, a12, a13⟩ := u
  unfold wpX_keep
  obtain ⟨h1, h2, h3, h4, h5⟩ := h
  have e3 : (3 : Int32) + nI k = nI (3 + k) := nI_add 3 k
  have r1 := h2.2 s (by omega)
  have ok : tq_ok v (m.1, m.2.1, m.2.2.1.set (3 + k) (tq_rt m s), m.2.2.2.1.set k true, m.2.2.2.2) F (md, pf, pi, ac, cc, al, st, dp, a1, a2, a3, a4, a5, upd a6 (3 + k) (nI (tq_rt m s)), upd a7 k 1, a8, a9, a10, a11, a12, a13) := by
    refine ⟨h1, tq_R_set h2 (by omega) (Nat.le_refl _) r1.2, ⟨by rw [List.length_set]; exact h3.1, fun j hj => ?_⟩, h4, h5⟩
    have hl := h3.1
    rw [tq_getD_set false m.2.2.2.1 k true j (by omega)]
    by_cases z : j = k
    · rw [if_pos z, z, pk_us, if_pos rfl]
    · rw [if_neg z, pk_un z]
      exact h3.2 j hj
  have er : tq_rt (m.1, m.2.1, m.2.2.1.set (3 + k) (tq_rt m s), m.2.2.2.1.set k true, m.2.2.2.2) s = tq_rt m s := by
    have hl := h2.1
    show (m.2.2.1.set (3 + k) (tq_rt m s)).getD s 0 = tq_rt m s
    rw [tq_getD_set 0 m.2.2.1 (3 + k) (tq_rt m s) s (by omega), if_neg (by omega)]
    rfl
  refine tq_badSide0 g.1 (br_t rfl (tq_badPlace0 g.2 (br_t rfl ?_)))
  rw [e3, nI_clamp (show 3 + k < 2 ^ 31 by omega), nI_clamp (show s < 2 ^ 31 by omega), nI_clamp (show k < 2 ^ 31 by omega), r1.1]
  refine ⟨pk_in s 9 (by omega), pk_in (3 + k) 9 (by omega), nm_e ⟨pk_in k 3 g.2, nm_e (tq_wot ok (by omega) ?_)⟩⟩
  rw [er]
  exact H _ ⟨F, ok⟩
theorem tq_wRestore {post : Int32 → St2 → Prop} {v : Int32} {m m' : tq_M} {u : St2} {s k : Nat} {r : Int} (h : tq_S v m u) (hf : tq_restore s k m = some (r, m'))
    (H : ∀ u', tq_S v m' u' → post (Int32.ofInt r) u') : wpX_restore post u (nI s) (nI k) := by
  obtain ⟨F, h⟩ := h
  unfold tq_restore at hf
  by_cases g : s < 2 ∧ k < 3
  case neg => rw [if_neg g] at hf; exact absurd hf.symm (Option.some_ne_none _)
  rw [if_pos g] at hf
  have hf := Option.some.inj hf
  have h' := h
  obtain ⟨md, pf, pi, ac, cc, al, st, dp, a1, a2, a3, a4, a5, a6, a7, a8, a9, a10, a11, a12, a13⟩ := u
  unfold wpX_restore
  obtain ⟨h1, h2, h3, h4, h5⟩ := h
  have e3 : (3 : Int32) + nI k = nI (3 + k) := nI_add 3 k
  have r1 := h2.2 (3 + k) (by omega)
  have k1 := h3.2 k g.2
  refine tq_badSide0 g.1 (br_t rfl (tq_badPlace0 g.2 (br_t rfl ⟨pk_in k 3 g.2, ?_⟩)))
  rw [e3, nI_clamp (show 3 + k < 2 ^ 31 by omega), nI_clamp (show s < 2 ^ 31 by omega), nI_clamp (show k < 2 ^ 31 by omega), r1.1, k1]
  by_cases z : m.2.2.2.1.getD k false = false
  · rw [if_pos z] at hf
    obtain ⟨rfl, rfl⟩ := Prod.mk.inj hf
    rw [tq_e4] at H
    rw [z]
    exact br_t rfl (H _ ⟨F, h'⟩)
  · rw [if_neg z] at hf
    obtain ⟨rfl, rfl⟩ := Prod.mk.inj hf
    rw [tq_iN] at H
    rw [tq_nf z]
    have ok : tq_ok v (tq_cp (3 + k) s m) F (md, pf, pi, ac, cc, al, st, dp, a1, a2, a3, a4, a5, upd a6 s (nI (m.2.2.1.getD (3 + k) 0)), a7, a8, a9, a10, a11, a12, a13) := ⟨h1, tq_R_set h2 (by omega) (Nat.le_refl _) r1.2, h3, h4, h5⟩
    have er : tq_rt (tq_cp (3 + k) s m) s = tq_rt m (3 + k) := by
      have hl := h2.1
      show (m.2.2.1.set s (tq_rt m (3 + k))).getD s 0 = tq_rt m (3 + k)
      rw [tq_getD_set 0 m.2.2.1 s (tq_rt m (3 + k)) s (by omega), if_pos rfl]
    refine br_f (by decide) ⟨pk_in (3 + k) 9 (by omega), pk_in s 9 (by omega), nm_e (tq_wot ok (by omega) ?_)⟩
    rw [er]
    exact H _ ⟨F, ok⟩
end
section
/-! stepping: act, meetConflict, pileInside, stepFolder, stepPath, stepAll, tryStep -/
def tq_PL (a : Nat → Int32) : List Nat → Prop
  | [] => True
  | p :: l => a l.length = nI p ∧ tq_PL a l
theorem tq_PL_upd {a : Nat → Int32} {k : Nat} {x : Int32} : ∀ l : List Nat, l.length ≤ k → tq_PL a l → tq_PL (upd a k x) l := by
  intro l
  induction l with
  | nil => intro _ _; trivial
  | cons p l ih =>
    intro h1 h2
    have h1' : l.length + 1 ≤ k := h1
    exact ⟨by rw [pk_un (by omega)]; exact h2.1, ih (by omega) h2.2⟩
theorem tq_app_lo {α : Type} {d x : α} : ∀ (l : List α) (i : Nat), i < l.length → (l ++ [x]).getD i d = l.getD i d := by
  intro l
  induction l with
  | nil => intro i h; exact absurd h (Nat.not_lt_zero i)
  | cons y l ih =>
    intro i h
    cases i with
    | zero => rfl
    | succ i => exact ih i (Nat.lt_of_succ_lt_succ h)
theorem tq_app_hi {α : Type} {d x : α} : ∀ (l : List α), (l ++ [x]).getD l.length d = x := by
  intro l
  induction l with
  | nil => rfl
  | cons y l ih => exact ih
theorem tq_app_len {α : Type} {x : α} (l : List α) : (l ++ [x]).length = l.length + 1 := by rw [List.length_append]; rfl
def tq_Q (aw : Nat) (z : List Nat × List (Nat × Nat) × List Nat × Bool) (F : tq_F) : Prop :=
  F.1 = nI z.1.length ∧ F.2.1 = nI z.2.1.length ∧ F.2.2.1 = nI z.2.2.1.length ∧ F.2.2.2.1 = nI aw ∧ F.2.2.2.2.1 = tq_bI z.2.2.2 ∧ tq_PL F.2.2.2.2.2.1 z.1
  ∧ (∀ i, i < z.2.1.length → F.2.2.2.2.2.2.1 i = nI (z.2.1.getD i (0, 0)).1 ∧ F.2.2.2.2.2.2.2.1 i = nI (z.2.1.getD i (0, 0)).2) ∧ (∀ i, i < z.2.2.1.length → F.2.2.2.2.2.2.2.2 i = nI (z.2.2.1.getD i 0))
def tq_zk (v : Int32) (aw : Nat) (z : tq_Z) (u : St2) : Prop := ∃ F, tq_ok v z.1 F u ∧ tq_Q aw z.2 F
theorem tq_zG {v : Int32} {aw : Nat} {z : tq_Z} {u : St2} (h : tq_zk v aw z u) : tq_G z.1 := by
  obtain ⟨F, h1, h2⟩ := h
  exact tq_ok_G h1
theorem tq_wAct {post : St2 → Prop} {v : Int32} {aw : Nat} {z : tq_Z} {u : St2} {p sd c : Nat} (h : tq_zk v aw z u) (ha : aw < 2 ^ 31) (hn : z.1.1 ≤ 960) (hl : z.2.2.1.length < 84) (hp : p < 84) (hs : sd < 2) (hc : c < z.1.1)
    (H : ∀ u', tq_zk v aw (tq_act aw p sd c z) u' → post u') : wpX_act post u (nI p) (nI sd) (nI c) := by
  have G := tq_zG h
  obtain ⟨F, h, q⟩ := h
  obtain ⟨m, pl, as, cs, sb⟩ := z
  obtain ⟨md, pf, pi, ac, cc, al, st, dp, a1, a2, a3, a4, a5, a6, a7, a8, a9, a10, a11, a12, a13⟩ := u
  obtain ⟨h1, h2, h3, h4, h5⟩ := h
  subst h5
  obtain ⟨q1, q2, q3, q4, q5, q6, q7, q8⟩ := q
  dsimp only at *
  unfold tq_act at H
  dsimp only at H
  refine pk_eq as.length aw (fun e => ?_) (fun e => ?_) q2 q4
  · rw [if_pos e] at H
    exact H _ ⟨(pi, ac, cc, al, 1, a8, a9, a10, a11), ⟨h1, h2, h3, h4, rfl⟩, q1, q2, q3, q4, rfl, q6, q7, q8⟩
  · rw [if_neg e] at H
    rw [q2, nI_clamp (show as.length < 2 ^ 31 by omega)]
    refine ⟨pk_in as.length 84 hl, nm_e ⟨pk_in as.length 84 hl, nm_e (nm_r (nI_1 as.length) ?_)⟩⟩
    have c1 := tq_set_n (t := sd) (p := p) G hc
    refine tq_setContent (m := m) (F := (pi, nI (as.length + 1), cc, al, st, a8, upd a9 as.length (nI p), upd a10 as.length (nI sd), a11)) ⟨h1, h2, h3, h4, rfl⟩ (by omega) hp (by omega) hc (fun u1 k1 => ?_)
    obtain ⟨mdb, pfb, pib, acb, ccb, alb, stb, dpb, a1b, a2b, a3b, a4b, a5b, a6b, a7b, a8b, a9b, a10b, a11b, a12b, a13b⟩ := u1
    refine tq_setContent (t := 2) k1 (by omega) hp (by omega) (by omega) (fun u2 k2 => ?_)
    obtain ⟨mdc, pfc, pic, acc, ccc, alc, stc, dpc, a1c, a2c, a3c, a4c, a5c, a6c, a7c, a8c, a9c, a10c, a11c, a12c, a13c⟩ := u2
    refine H _ ⟨_, k2, q1, ?_, q3, q4, q5, q6, fun i hi => ?_, q8⟩
    · show nI (as.length + 1) = nI (as ++ [(p, sd)]).length
      rw [tq_app_len]
    · have hi' : i < as.length + 1 := by rw [← tq_app_len]; exact hi
      show upd a9 as.length (nI p) i = nI ((as ++ [(p, sd)]).getD i (0, 0)).1 ∧ upd a10 as.length (nI sd) i = nI ((as ++ [(p, sd)]).getD i (0, 0)).2
      by_cases y : i = as.length
      · rw [y, pk_us, pk_us, tq_app_hi]
        exact ⟨rfl, rfl⟩
      · rw [pk_un y, pk_un y, tq_app_lo as i (by omega)]
        exact q7 i (by omega)
theorem tq_wConf {post : St2 → Prop} {v : Int32} {aw : Nat} {z : tq_Z} {u : St2} {p a b : Nat} (h : tq_zk v aw z u) (ha : aw < 2 ^ 31) (hn : z.1.1 ≤ 960) (hl : z.2.2.1.length < 84) (hl2 : z.2.2.2.1.length < 84) (hp : p < 84) (hA : a < z.1.1) (hB : b < z.1.1)
    (H : ∀ u', tq_zk v aw (tq_mc aw p a b z) u' → post u') : wpX_meetConflict post u (nI p) (nI a) (nI b) := by
  have G := tq_zG h
  obtain ⟨F, h, q⟩ := h
  obtain ⟨m, pl, as, cs, sb⟩ := z
  obtain ⟨md, pf, pi, ac, cc, al, st, dp, a1, a2, a3, a4, a5, a6, a7, a8, a9, a10, a11, a12, a13⟩ := u
  obtain ⟨h1, h2, h3, h4, h5⟩ := h
  subst h5
  obtain ⟨q1, q2, q3, q4, q5, q6, q7, q8⟩ := q
  dsimp only at *
  have k : tq_zk v aw (m, pl, as, cs ++ [p], sb) (md, pf, pi, ac, nI (cs.length + 1), al, st, dp, a1, a2, a3, a4, a5, a6, a7, a8, a9, a10, upd a11 cs.length (nI p), a12, a13) := by
    refine ⟨_, ⟨h1, h2, h3, h4, rfl⟩, q1, q2, ?_, q4, q5, q6, q7, fun i hi => ?_⟩
    · show nI (cs.length + 1) = nI (cs ++ [p]).length
      rw [tq_app_len]
    · have hi' : i < cs.length + 1 := by rw [← tq_app_len]; exact hi
      show upd a11 cs.length (nI p) i = nI ((cs ++ [p]).getD i 0)
      by_cases y : i = cs.length
      · rw [y, pk_us, tq_app_hi]
      · rw [pk_un y, tq_app_lo cs i (by omega)]
        exact q8 i (by omega)
  unfold tq_mc at H
  dsimp only at H
  rw [show wpX_meetConflict post (md, pf, pi, ac, cc, al, st, dp, a1, a2, a3, a4, a5, a6, a7, a8, a9, a10, a11, a12, a13) (nI p) (nI a) (nI b) = wpX_meetConflict post (md, pf, pi, ac, nI cs.length, al, st, dp, a1, a2, a3, a4, a5, a6, a7, a8, a9, a10, a11, a12, a13) (nI p) (nI a) (nI b) by rw [show cc = nI cs.length from q3]]
  refine ⟨pk_in cs.length 84 hl2, ?_⟩
  rw [nI_clamp (show cs.length < 2 ^ 31 by omega)]
  refine nm_e (nm_r (nI_1 cs.length) ?_)
  have pP := h4.1
  have pE := h4.2
  rcases (show m.2.2.2.2 = 0 ∨ m.2.2.2.2 = 1 ∨ m.2.2.2.2 = 2 by omega) with y | y | y
  · rw [y] at pE
    rw [if_neg (by omega), if_neg (by omega)] at H
    exact br_f (by rw [pE]; decide) (br_f (by rw [pE]; decide) (H _ k))
  · rw [y] at pE
    rw [if_pos y] at H
    refine br_t (by rw [pE]; decide) (tq_wAct (sd := 1) k ha hn hl hp (by omega) hA (fun u1 k1 => ?_))
    obtain ⟨mdb, pfb, pib, acb, ccb, alb, stb, dpb, a1b, a2b, a3b, a4b, a5b, a6b, a7b, a8b, a9b, a10b, a11b, a12b, a13b⟩ := u1
    exact H _ k1
  · rw [y] at pE
    rw [if_neg (by omega), if_pos y] at H
    refine br_f (by rw [pE]; decide) (br_t (by rw [pE]; decide) (tq_wAct (sd := 0) k ha hn hl hp (by omega) hB (fun u1 k1 => ?_)))
    obtain ⟨mdb, pfb, pib, acb, ccb, alb, stb, dpb, a1b, a2b, a3b, a4b, a5b, a6b, a7b, a8b, a9b, a10b, a11b, a12b, a13b⟩ := u1
    exact H _ k1
theorem tq_pi31s {post : St2 → Prop} {md pf ac cc al st dp : Int32} {a1 a2 a3 a4 a5 a6 a7 a8 a9 a10 a11 a12 a13 : Nat → Int32} {f g k l : Nat} (hk : k < 4) (hl : l < 90)
    (H : wX_pileInside_31 post (nI f) md pf ac cc al st dp g (nI k + (-1)) (nI (l + 1)) a1 a2 a3 a4 a5 a6 a7 (upd a8 l (nI (f + k))) a9 a10 a11 a12 a13) : wX_pileInside_31 post (nI f) md pf ac cc al st dp (g + 1) (nI k) (nI l) a1 a2 a3 a4 a5 a6 a7 a8 a9 a10 a11 a12 a13 := by
  refine br_f (nI_pos (by omega)) ⟨pk_in l 90 hl, ?_⟩
  rw [nI_clamp (show l < 2 ^ 31 by omega), nI_add]
  exact nm_e (nm_r (nI_1 l) (nm_e H))
theorem tq_pi31 {post : St2 → Prop} {md pf ac cc al st dp : Int32} {a1 a2 a3 a4 a5 a6 a7 a8 a9 a10 a11 a12 a13 : Nat → Int32} {f l : Nat} (hl : l ≤ 86)
    (H : post (md, pf, nI (l + 4), ac, cc, al, st, dp, a1, a2, a3, a4, a5, a6, a7, upd (upd (upd (upd a8 l (nI (f + 3))) (l + 1) (nI (f + 2))) (l + 2) (nI (f + 1))) (l + 3) (nI (f + 0)), a9, a10, a11, a12, a13)) : wX_pileInside_31 post (nI f) md pf ac cc al st dp 5 (nI 3) (nI l) a1 a2 a3 a4 a5 a6 a7 a8 a9 a10 a11 a12 a13 := by
  refine tq_pi31s (by omega) (by omega) ?_
  rw [show nI 3 + (-1) = nI 2 by decide]
  refine tq_pi31s (by omega) (by omega) ?_
  rw [show nI 2 + (-1) = nI 1 by decide]
  refine tq_pi31s (by omega) (by omega) ?_
  rw [show nI 1 + (-1) = nI 0 by decide]
  refine tq_pi31s (by omega) (by omega) ?_
  exact br_t (by decide) H
theorem tq_PL4 {a8 : Nat → Int32} {f : Nat} {l : List Nat} (h : tq_PL a8 l) :
    tq_PL (upd (upd (upd (upd a8 l.length (nI (f + 3))) (l.length + 1) (nI (f + 2))) (l.length + 2) (nI (f + 1))) (l.length + 3) (nI (f + 0))) (f :: (f + 1) :: (f + 2) :: (f + 3) :: l) := by
  refine ⟨pk_us, ?_, ?_, ?_, ?_⟩
  · show upd _ _ _ (l.length + 2) = _
    rw [pk_un (by omega), pk_us]
  · show upd _ _ _ (l.length + 1) = _
    rw [pk_un (by omega), pk_un (by omega), pk_us]
  · show upd _ _ _ (l.length) = _
    rw [pk_un (by omega), pk_un (by omega), pk_un (by omega), pk_us]
  · exact tq_PL_upd l (by omega) (tq_PL_upd l (by omega) (tq_PL_upd l (by omega) (tq_PL_upd l (Nat.le_refl _) h)))
theorem tq_wPin {post : St2 → Prop} {v : Int32} {aw : Nat} {z : tq_Z} {u : St2} {p : Nat} (h : tq_zk v aw z u) (hp : p < 84) (hl : z.2.1.length ≤ 80)
    (H : ∀ u', tq_zk v aw (z.1, tq_pin p z.2.1, z.2.2) u' → post u') : wpX_pileInside post u (nI p) := by
  obtain ⟨F, h, q⟩ := h
  obtain ⟨m, pl, as, cs, sb⟩ := z
  obtain ⟨md, pf, pi, ac, cc, al, st, dp, a1, a2, a3, a4, a5, a6, a7, a8, a9, a10, a11, a12, a13⟩ := u
  obtain ⟨h1, h2, h3, h4, h5⟩ := h
  subst h5
  obtain ⟨q1, q2, q3, q4, q5, q6, q7, q8⟩ := q
  dsimp only at *
  unfold tq_pin at H
  subst q1
  refine pk_lt p 20 (fun y => pk_le 4 p (fun y2 => ?_) (fun y2 => ?_)) (fun y => ?_)
  · have e : (20 : Int32) + 4 * (nI p - 4) = nI (20 + 4 * (p - 4)) := by
      rw [show nI p - 4 = nI (p - 4) from pk_sub (a := p) (b := 4) y2, show (4 : Int32) * nI (p - 4) = nI (4 * (p - 4)) from pk_mul 4 _]
      exact nI_add 20 _
    refine nm_r e ⟨5, tq_pi31 (by omega) (H _ ?_)⟩
    rw [if_neg (by omega), if_pos y]
    exact ⟨_, ⟨h1, h2, h3, h4, rfl⟩, rfl, q2, q3, q4, q5, tq_PL4 q6, q7, q8⟩
  · have e : (4 : Int32) + 4 * nI p = nI (4 + 4 * p) := by
      rw [show (4 : Int32) * nI p = nI (4 * p) from pk_mul 4 _]
      exact nI_add 4 _
    refine nm_r e ⟨5, tq_pi31 (by omega) (H _ ?_)⟩
    rw [if_pos (by omega)]
    exact ⟨_, ⟨h1, h2, h3, h4, rfl⟩, rfl, q2, q3, q4, q5, tq_PL4 q6, q7, q8⟩
  · refine H _ ?_
    rw [if_neg (by omega), if_neg (by omega)]
    exact ⟨_, ⟨h1, h2, h3, h4, rfl⟩, rfl, q2, q3, q4, q5, q6, q7, q8⟩
theorem tq_wSf {post : St2 → Prop} {v : Int32} {aw : Nat} {z : tq_Z} {u : St2} {p la : Nat} (h : tq_zk v aw z u) (hn : z.1.1 ≤ 960) (hp : p < 84) (hl : z.2.1.length ≤ 80) (hla : la < z.1.1)
    (H : ∀ u', tq_zk v aw (tq_sf p la z) u' → post u') : wpX_stepFolder post u (nI p) (nI la) := by
  have G := tq_zG h
  have h0 := h
  obtain ⟨F, h, q⟩ := h
  obtain ⟨m, pl, as, cs, sb⟩ := z
  obtain ⟨md, pf, pi, ac, cc, al, st, dp, a1, a2, a3, a4, a5, a6, a7, a8, a9, a10, a11, a12, a13⟩ := u
  have k := tq_kind_at h hla
  have kl := tq_kc_lt m la
  dsimp only at *
  unfold tq_sf at H
  dsimp only at H
  refine ⟨k.1, ?_⟩
  rw [k.2.1]
  refine pk_eq (tq_kc m la) 2 (fun y => ?_) (fun y => ?_)
  · rw [if_pos y] at H
    refine tq_wPin h0 hp hl (fun u1 k1 => ?_)
    obtain ⟨mdb, pfb, pib, acb, ccb, alb, stb, dpb, a1b, a2b, a3b, a4b, a5b, a6b, a7b, a8b, a9b, a10b, a11b, a12b, a13b⟩ := u1
    exact H _ k1
  · rw [if_neg y] at H
    have c1 := tq_ctM_n (tq_mk 1 0 0 0 0) G
    refine tq_contentE h (by omega) (fun u1 k1 => ?_)
    obtain ⟨mdb, pfb, pib, acb, ccb, alb, stb, dpb, a1b, a2b, a3b, a4b, a5b, a6b, a7b, a8b, a9b, a10b, a11b, a12b, a13b⟩ := u1
    refine tq_setContent (t := 2) k1 (by omega) hp (by omega) c1.2.2 (fun u2 k2 => ?_)
    obtain ⟨mdc, pfc, pic, acc, ccc, alc, stc, dpc, a1c, a2c, a3c, a4c, a5c, a6c, a7c, a8c, a9c, a10c, a11c, a12c, a13c⟩ := u2
    refine tq_wPin (z := (tq_set (tq_ctM m (tq_mk 1 0 0 0 0)) 2 p (tq_ctI m (tq_mk 1 0 0 0 0)), pl, as, cs, sb)) ⟨F, k2, q⟩ hp hl (fun u3 k3 => ?_)
    obtain ⟨mdd, pfd, pid, acd, ccd, ald, std, dpd, a1d, a2d, a3d, a4d, a5d, a6d, a7d, a8d, a9d, a10d, a11d, a12d, a13d⟩ := u3
    exact H _ k3
theorem tq_wSp {post : St2 → Prop} {v : Int32} {aw : Nat} {z : tq_Z} {u : St2} {p : Nat} (h : tq_zk v aw z u) (ha : aw < 2 ^ 31) (hn : z.1.1 ≤ 960) (hp : p < 84) (hl : z.2.1.length ≤ 80) (hl1 : z.2.2.1.length < 84) (hl2 : z.2.2.2.1.length < 84)
    (H : ∀ u', tq_zk v aw (tq_sp aw p z) u' → post u') : wpX_stepPath post u (nI p) := by
  have G := tq_zG h
  obtain ⟨F, h, q⟩ := h
  have A := tq_a_lt G (show 0 < 9 by omega) hp
  have B := tq_a_lt G (show 1 < 9 by omega) hp
  have C := tq_a_lt G (show 2 < 9 by omega) hp
  have ka := tq_kc_lt z.1 (tq_a z.1 0 p)
  have kb := tq_kc_lt z.1 (tq_a z.1 1 p)
  obtain ⟨md, pf, pi, ac, cc, al, st, dp, a1, a2, a3, a4, a5, a6, a7, a8, a9, a10, a11, a12, a13⟩ := u
  unfold wpX_stepPath
  unfold tq_sp at H
  refine tq_contentAt2 (t := 0) h (by omega) hp (fun u1 h1 => ?_)
  obtain ⟨mdb, pfb, pib, acb, ccb, alb, stb, dpb, a1b, a2b, a3b, a4b, a5b, a6b, a7b, a8b, a9b, a10b, a11b, a12b, a13b⟩ := u1
  refine tq_contentAt2 (t := 1) h1 (by omega) hp (fun u2 h2 => ?_)
  obtain ⟨mdc, pfc, pic, acc, ccc, alc, stc, dpc, a1c, a2c, a3c, a4c, a5c, a6c, a7c, a8c, a9c, a10c, a11c, a12c, a13c⟩ := u2
  refine tq_contentAt2 (t := 2) h2 (by omega) hp (fun u3 h3 => ?_)
  obtain ⟨mdd, pfd, pid, acd, ccd, ald, std, dpd, a1d, a2d, a3d, a4d, a5d, a6d, a7d, a8d, a9d, a10d, a11d, a12d, a13d⟩ := u3
  have k1 := tq_kind_at h3 A
  have k2 := tq_kind_at h3 B
  refine pk_eq (tq_a z.1 0 p) (tq_a z.1 1 p) (fun y => pk_eq (tq_a z.1 2 p) (tq_a z.1 0 p) (fun y2 => ?_) (fun y2 => ?_)) (fun y => ⟨k1.1, ?_⟩)
  · rw [if_pos y, if_pos y2] at H
    exact H _ ⟨F, h3, q⟩
  · rw [if_pos y, if_neg y2] at H
    refine tq_setContent (t := 2) h3 (by omega) hp (by omega) A (fun u4 h4 => ?_)
    obtain ⟨mde, pfe, pie, ace, cce, ale, ste, dpe, a1e, a2e, a3e, a4e, a5e, a6e, a7e, a8e, a9e, a10e, a11e, a12e, a13e⟩ := u4
    exact H _ ⟨F, h4, q⟩
  · rw [if_neg y] at H
    have R : (¬ (tq_kc z.1 (tq_a z.1 0 p) = 2 ∧ tq_kc z.1 (tq_a z.1 1 p) = 2)) → wX_stepPath_73 post (nI p) (nI (tq_a z.1 0 p)) (nI (tq_a z.1 1 p)) (nI (tq_a z.1 2 p)) mdd pfd pid acd ccd ald std dpd a1d a2d a3d a4d a5d a6d a7d a8d a9d a10d a11d a12d a13d := by
      intro nk
      rw [if_neg nk] at H
      refine pk_eq (tq_a z.1 0 p) (tq_a z.1 2 p) (fun y2 => ?_) (fun y2 => pk_eq (tq_a z.1 1 p) (tq_a z.1 2 p) (fun y3 => ?_) (fun y3 => ?_))
      · rw [if_pos y2] at H
        refine tq_wAct (z := z) (sd := 0) ⟨F, h3, q⟩ ha hn hl1 hp (by omega) B (fun u4 h4 => ?_)
        obtain ⟨mde, pfe, pie, ace, cce, ale, ste, dpe, a1e, a2e, a3e, a4e, a5e, a6e, a7e, a8e, a9e, a10e, a11e, a12e, a13e⟩ := u4
        exact H _ h4
      · rw [if_neg y2, if_pos y3] at H
        refine tq_wAct (z := z) (sd := 1) ⟨F, h3, q⟩ ha hn hl1 hp (by omega) A (fun u4 h4 => ?_)
        obtain ⟨mde, pfe, pie, ace, cce, ale, ste, dpe, a1e, a2e, a3e, a4e, a5e, a6e, a7e, a8e, a9e, a10e, a11e, a12e, a13e⟩ := u4
        exact H _ h4
      · rw [if_neg y2, if_neg y3] at H
        refine tq_wConf (z := z) ⟨F, h3, q⟩ ha hn hl1 hl2 hp A B (fun u4 h4 => ?_)
        obtain ⟨mde, pfe, pie, ace, cce, ale, ste, dpe, a1e, a2e, a3e, a4e, a5e, a6e, a7e, a8e, a9e, a10e, a11e, a12e, a13e⟩ := u4
        exact H _ h4
    rw [k1.2.1, k2.2.1]
    refine pk_eq (tq_kc z.1 (tq_a z.1 0 p)) 2 (fun y2 => ⟨k2.1, pk_eq (tq_kc z.1 (tq_a z.1 1 p)) 2 (fun y3 => ?_) (fun y3 => R (fun t => y3 t.2))⟩) (fun y2 => R (fun t => y2 t.1))
    rw [if_pos ⟨y2, y3⟩] at H
    refine tq_wSf (z := z) ⟨F, h3, q⟩ hn hp hl C (fun u4 h4 => ?_)
    obtain ⟨mde, pfe, pie, ace, cce, ale, ste, dpe, a1e, a2e, a3e, a4e, a5e, a6e, a7e, a8e, a9e, a10e, a11e, a12e, a13e⟩ := u4
    exact H _ h4
def tq_W59 (post : St2 → Prop) (f : Nat) (x2 : Int32) (u : St2) : Prop := match u with
  | (md, pf, pi, ac, cc, al, st, dp, a1, a2, a3, a4, a5, a6, a7, a8, a9, a10, a11, a12, a13) => wX_stepAll_59 post f x2 md pf pi ac cc al st dp a1 a2 a3 a4 a5 a6 a7 a8 a9 a10 a11 a12 a13
theorem tq_sa59 {post : St2 → Prop} {v : Int32} {aw : Nat} {z' : tq_Z} (ha : aw < 2 ^ 31) (H : ∀ u', tq_zk v aw z' u' → post u') :
    ∀ k i z u, i + k = 84 → tq_zk v aw z u → tq_lp aw k z = some z' → tq_W59 post (k + 1) (nI i) u := by
  intro k
  induction k with
  | zero =>
    intro i z u hi h hf
    have e : z = z' := Option.some.inj hf
    subst e
    obtain ⟨md, pf, pi, ac, cc, al, st, dp, a1, a2, a3, a4, a5, a6, a7, a8, a9, a10, a11, a12, a13⟩ := u
    exact pk_le 84 i (fun _ => H _ h) (fun y => absurd y (by omega))
  | succ k ih =>
    intro i z u hi h hf
    obtain ⟨m, pl, as, cs, sb⟩ := z
    obtain ⟨md, pf, pi, ac, cc, al, st, dp, a1, a2, a3, a4, a5, a6, a7, a8, a9, a10, a11, a12, a13⟩ := u
    have h0 := h
    obtain ⟨F, h, q⟩ := h
    have hk := h
    obtain ⟨h1, h2, h3, h4, h5⟩ := h
    subst h5
    obtain ⟨q1, q2, q3, q4, q5, q6, q7, q8⟩ := q
    dsimp only at q1 q2 q3 q4 q5 q6 q7 q8
    refine pk_le 84 i (fun y => absurd y (by omega)) (fun _ => ?_)
    cases pl with
    | nil =>
      have e : (m, [], as, cs, sb) = z' := Option.some.inj hf
      subst e
      exact br_t (by rw [q1]; decide) (H _ h0)
    | cons p ps =>
      have hf' : (if sb = true then some (m, p :: ps, as, cs, sb) else if p < 84 ∧ ps.length ≤ 80 ∧ m.1 ≤ 900 ∧ as.length < 84 ∧ cs.length < 84 then tq_lp aw k (tq_sp aw p (m, ps, as, cs, sb)) else none) = some z' := hf
      by_cases y : sb = true
      · rw [if_pos y] at hf'
        have e := Option.some.inj hf'
        subst e
        exact br_c (fun _ => H _ h0) (fun _ => br_f (by rw [q5, y]; decide) (H _ h0))
      · rw [if_neg y] at hf'
        have ys : sb = false := Bool.eq_false_iff.mpr y
        by_cases g : p < 84 ∧ ps.length ≤ 80 ∧ m.1 ≤ 900 ∧ as.length < 84 ∧ cs.length < 84
        case neg => rw [if_neg g] at hf'; exact absurd hf'.symm (Option.some_ne_none _)
        rw [if_pos g] at hf'
        have ql : pi = nI (ps.length + 1) := q1
        refine br_f (by rw [ql]; exact nI_nle (by omega) (by omega)) (br_t (by rw [q5, ys]; rfl) ?_)
        refine tq_room (m := m) 16 hk (by omega) (fun u1 k1 => ?_)
        obtain ⟨mdb, pfb, pib, acb, ccb, alb, stb, dpb, a1b, a2b, a3b, a4b, a5b, a6b, a7b, a8b, a9b, a10b, a11b, a12b, a13b⟩ := u1
        obtain ⟨k1a, k1b, k1c, k1d, k1e⟩ := k1
        have E := Prod.mk.inj k1e
        have E2 := Prod.mk.inj E.2
        have E3 := Prod.mk.inj E2.2
        have E4 := Prod.mk.inj E3.2
        have E5 := Prod.mk.inj E4.2
        have E6 := Prod.mk.inj E5.2
        have E7 := Prod.mk.inj E6.2
        have E8 := Prod.mk.inj E7.2
        have e1 : pib - 1 = nI ps.length := by rw [← E.1, ql]; exact nI_pred _
        refine nm_r e1 ⟨pk_in ps.length 90 (by omega), ?_⟩
        have e8 : a8b ps.length = nI p := by rw [← E6.1]; exact q6.1
        rw [nI_clamp (show ps.length < 2 ^ 31 by omega), e8]
        have kz : tq_zk v aw (m, ps, as, cs, sb) (mdb, pfb, nI ps.length, acb, ccb, alb, stb, dpb, a1b, a2b, a3b, a4b, a5b, a6b, a7b, a8b, a9b, a10b, a11b, a12b, a13b) :=
          ⟨_, ⟨k1a, k1b, k1c, k1d, rfl⟩, rfl, by show acb = _; rw [← E2.1]; exact q2, by show ccb = _; rw [← E3.1]; exact q3, by show alb = _; rw [← E4.1]; exact q4, by show stb = _; rw [← E5.1]; exact q5,
            by show tq_PL a8b ps; rw [← E6.1]; exact q6.2, by show ∀ i, i < as.length → a9b i = _ ∧ a10b i = _; rw [← E7.1, ← E8.1]; exact q7, by show ∀ i, i < cs.length → a11b i = _; rw [← E8.2]; exact q8⟩
        refine tq_wSp kz ha (by show m.1 ≤ 960; omega) g.1 g.2.1 g.2.2.2.1 g.2.2.2.2 (fun u2 k2 => ?_)
        obtain ⟨mdc, pfc, pic, acc, ccc, alc, stc, dpc, a1c, a2c, a3c, a4c, a5c, a6c, a7c, a8c, a9c, a10c, a11c, a12c, a13c⟩ := u2
        exact nm_r (nI_1 i) (ih (i + 1) _ (mdc, pfc, pic, acc, ccc, alc, stc, dpc, a1c, a2c, a3c, a4c, a5c, a6c, a7c, a8c, a9c, a10c, a11c, a12c, a13c) (by omega) k2 hf')
theorem tq_sa27s {post : St2 → Prop} {md pf ac cc al st dp : Int32} {a1 a2 a3 a4 a5 a6 a7 a8 a9 a10 a11 a12 a13 : Nat → Int32} {g k l : Nat} (hk : k < 4) (hl : l < 90)
    (H : wX_stepAll_27 post md pf ac cc al st dp g (nI k + (-1)) (nI (l + 1)) a1 a2 a3 a4 a5 a6 a7 (upd a8 l (nI k)) a9 a10 a11 a12 a13) : wX_stepAll_27 post md pf ac cc al st dp (g + 1) (nI k) (nI l) a1 a2 a3 a4 a5 a6 a7 a8 a9 a10 a11 a12 a13 := by
  refine br_f (nI_pos (by omega)) ⟨pk_in l 90 hl, ?_⟩
  rw [nI_clamp (show l < 2 ^ 31 by omega)]
  exact nm_e (nm_r (nI_1 l) (nm_e H))
theorem tq_stepAll {post : St2 → Prop} {v : Int32} {aw : Nat} {m : tq_M} {z' : tq_Z} {u : St2} (h : tq_S v m u) (ha : aw < 2 ^ 31) (hf : tq_all aw m = some z') (H : ∀ u', tq_zk v aw z' u' → post u') : wpX_stepAll post u (nI aw) := by
  obtain ⟨F, h⟩ := h
  obtain ⟨md, pf, pi, ac, cc, al, st, dp, a1, a2, a3, a4, a5, a6, a7, a8, a9, a10, a11, a12, a13⟩ := u
  obtain ⟨h1, h2, h3, h4, h5⟩ := h
  have k : tq_zk v aw (m, [0, 1, 2, 3], [], [], false) (md, pf, nI 4, 0, 0, nI aw, 0, dp, a1, a2, a3, a4, a5, a6, a7, upd (upd (upd (upd a8 0 (nI 3)) 1 (nI 2)) 2 (nI 1)) 3 (nI 0), a9, a10, a11, a12, a13) :=
    ⟨_, ⟨h1, h2, h3, h4, rfl⟩, rfl, rfl, rfl, rfl, rfl, ⟨rfl, rfl, rfl, rfl, trivial⟩, fun i hi => absurd hi (Nat.not_lt_zero i), fun i hi => absurd hi (Nat.not_lt_zero i)⟩
  have P := tq_sa59 ha H 84 0 _ _ (by omega) k hf
  refine ⟨5, tq_sa27s (k := 3) (l := 0) (by omega) (by omega) ?_⟩
  rw [show nI 3 + (-1) = nI 2 by decide]
  refine tq_sa27s (by omega) (by omega) ?_
  rw [show nI 2 + (-1) = nI 1 by decide]
  refine tq_sa27s (by omega) (by omega) ?_
  rw [show nI 1 + (-1) = nI 0 by decide]
  refine tq_sa27s (by omega) (by omega) ?_
  exact br_t (by decide) ⟨85, P⟩
end
section
/-! tryStep and what rests on it; step, stepSome -/
theorem tq_mapS {α β : Type} {f : α → β} {o : Option α} {b : β} (h : o.map f = some b) : ∃ a, o = some a ∧ f a = b := by
  cases o with
  | none => exact absurd h.symm (Option.some_ne_none _)
  | some a => exact ⟨a, rfl, Option.some.inj h⟩
theorem tq_try_s {m : tq_M} {z : tq_Z} (h : tq_try m = some z) : ∃ z', tq_all 84 (tq_sv m) = some z' ∧ (tq_ld z'.1, z'.2) = z ∧ z.2.2.1.length ≤ 84 ∧ z.2.2.2.1.length ≤ 84 := by
  unfold tq_try at h
  cases e : tq_all 84 (tq_sv m) with
  | none => rw [e] at h; exact absurd h.symm (Option.some_ne_none _)
  | some z' =>
    rw [e] at h
    have h' : (if z'.2.2.1.length ≤ 84 ∧ z'.2.2.2.1.length ≤ 84 then some (tq_ld z'.1, z'.2) else none) = some z := h
    by_cases g : z'.2.2.1.length ≤ 84 ∧ z'.2.2.2.1.length ≤ 84
    · rw [if_pos g] at h'
      have e2 := Option.some.inj h'
      exact ⟨z', rfl, e2, by rw [← e2]; exact g.1, by rw [← e2]; exact g.2⟩
    · rw [if_neg g] at h'
      exact absurd h'.symm (Option.some_ne_none _)
theorem tq_cp_ok {v : Int32} {m : tq_M} {F : tq_F} {md pf pi ac cc al st dp : Int32} {a1 a2 a3 a4 a5 a6 a7 a8 a9 a10 a11 a12 a13 : Nat → Int32} {i j : Nat} (h : tq_ok v m F (md, pf, pi, ac, cc, al, st, dp, a1, a2, a3, a4, a5, a6, a7, a8, a9, a10, a11, a12, a13)) (hi : i < 9) (hj : j < 9) : tq_ok v (tq_cp i j m) F (md, pf, pi, ac, cc, al, st, dp, a1, a2, a3, a4, a5, upd a6 j (a6 i), a7, a8, a9, a10, a11, a12, a13) := by
  obtain ⟨h1, h2, h3, h4, h5⟩ := h
  have e : a6 i = nI (tq_rt m i) := (h2.2 i hi).1
  rw [e]
  exact ⟨h1, tq_R_set h2 hj (Nat.le_refl _) (h2.2 i hi).2, h3, h4, h5⟩
theorem tq_ts2s {post : St2 → Prop} {md pf pi ac cc al st dp : Int32} {a1 a2 a3 a4 a5 a6 a7 a8 a9 a10 a11 a12 a13 : Nat → Int32} {g i : Nat} (hi : i < 3) (H : wX_tryStep_2 post md pf pi ac cc al st dp g (nI (i + 1)) a1 a2 a3 a4 a5 (upd a6 (6 + i) (a6 i)) a7 a8 a9 a10 a11 a12 a13) : wX_tryStep_2 post md pf pi ac cc al st dp (g + 1) (nI i) a1 a2 a3 a4 a5 a6 a7 a8 a9 a10 a11 a12 a13 := by
  have e : (6 : Int32) + nI i = nI (6 + i) := nI_add 6 i
  refine br_f (nI_ge (b := 3) hi (by decide)) ?_
  rw [e, nI_clamp (show 6 + i < 2 ^ 31 by omega), nI_clamp (show i < 2 ^ 31 by omega)]
  exact ⟨pk_in i 9 (by omega), pk_in (6 + i) 9 (by omega), nm_e (nm_r (nI_1 i) H)⟩
theorem tq_ts36s {post : St2 → Prop} {md pf pi ac cc al st dp : Int32} {a1 a2 a3 a4 a5 a6 a7 a8 a9 a10 a11 a12 a13 : Nat → Int32} {g i : Nat} (hi : i < 3) (H : wX_tryStep_36 post md pf pi ac cc al st dp g (nI (i + 1)) a1 a2 a3 a4 a5 (upd a6 i (a6 (6 + i))) a7 a8 a9 a10 a11 a12 a13) : wX_tryStep_36 post md pf pi ac cc al st dp (g + 1) (nI i) a1 a2 a3 a4 a5 a6 a7 a8 a9 a10 a11 a12 a13 := by
  have e : (6 : Int32) + nI i = nI (6 + i) := nI_add 6 i
  refine br_f (nI_ge (b := 3) hi (by decide)) ?_
  rw [e, nI_clamp (show 6 + i < 2 ^ 31 by omega), nI_clamp (show i < 2 ^ 31 by omega)]
  exact ⟨pk_in (6 + i) 9 (by omega), pk_in i 9 (by omega), nm_e (nm_r (nI_1 i) H)⟩
theorem tq_tryStep {post : St2 → Prop} {v : Int32} {m : tq_M} {z : tq_Z} {u : St2} (h : tq_S v m u) (hf : tq_try m = some z) (H : ∀ u', tq_zk v 84 z u' → post u') : wpX_tryStep post u := by
  obtain ⟨z', f1, f2, f3⟩ := tq_try_s hf
  subst f2
  obtain ⟨F, h⟩ := h
  obtain ⟨md, pf, pi, ac, cc, al, st, dp, a1, a2, a3, a4, a5, a6, a7, a8, a9, a10, a11, a12, a13⟩ := u
  have k := tq_cp_ok (i := 2) (j := 8) (tq_cp_ok (i := 1) (j := 7) (tq_cp_ok (i := 0) (j := 6) h (by omega) (by omega)) (by omega) (by omega)) (by omega) (by omega)
  refine ⟨4, tq_ts2s (i := 0) (by omega) (tq_ts2s (i := 1) (by omega) (tq_ts2s (i := 2) (by omega) (br_t (by decide) ?_)))⟩
  refine tq_stepAll (aw := 84) ⟨F, k⟩ (by decide) f1 (fun u1 k1 => ?_)
  obtain ⟨mdb, pfb, pib, acb, ccb, alb, stb, dpb, a1b, a2b, a3b, a4b, a5b, a6b, a7b, a8b, a9b, a10b, a11b, a12b, a13b⟩ := u1
  obtain ⟨F1, k1, q1⟩ := k1
  have k2 := tq_cp_ok (i := 8) (j := 2) (tq_cp_ok (i := 7) (j := 1) (tq_cp_ok (i := 6) (j := 0) k1 (by omega) (by omega)) (by omega) (by omega)) (by omega) (by omega)
  exact ⟨4, tq_ts36s (i := 0) (by omega) (tq_ts36s (i := 1) (by omega) (tq_ts36s (i := 2) (by omega) (br_t (by decide) (H _ ⟨F1, k2, q1⟩))))⟩
theorem tq_wActions {post : Int32 → St2 → Prop} {v : Int32} {m m' : tq_M} {u : St2} {r : Int} (h : tq_S v m u) (hf : tq_actions m = some (r, m'))
    (H : ∀ u', tq_S v m' u' → post (Int32.ofInt r) u') : wpX_actions post u := by
  obtain ⟨z, f1, f2⟩ := tq_mapS hf
  obtain ⟨rfl, rfl⟩ := Prod.mk.inj f2
  obtain ⟨md, pf, pi, ac, cc, al, st, dp, a1, a2, a3, a4, a5, a6, a7, a8, a9, a10, a11, a12, a13⟩ := u
  unfold wpX_actions
  refine tq_tryStep h f1 (fun u1 k1 => ?_)
  obtain ⟨F1, k1, q1⟩ := k1
  have t := H _ ⟨F1, k1⟩
  obtain ⟨mdb, pfb, pib, acb, ccb, alb, stb, dpb, a1b, a2b, a3b, a4b, a5b, a6b, a7b, a8b, a9b, a10b, a11b, a12b, a13b⟩ := u1
  obtain ⟨k1a, k1b, k1c, k1d, k1e⟩ := k1
  subst k1e
  have e : acb = nI z.2.2.1.length := q1.2.1
  rw [tq_iN, ← e] at t
  exact t
theorem tq_wConflicts {post : Int32 → St2 → Prop} {v : Int32} {m m' : tq_M} {u : St2} {r : Int} (h : tq_S v m u) (hf : tq_conflicts m = some (r, m'))
    (H : ∀ u', tq_S v m' u' → post (Int32.ofInt r) u') : wpX_conflicts post u := by
  obtain ⟨z, f1, f2⟩ := tq_mapS hf
  obtain ⟨rfl, rfl⟩ := Prod.mk.inj f2
  obtain ⟨md, pf, pi, ac, cc, al, st, dp, a1, a2, a3, a4, a5, a6, a7, a8, a9, a10, a11, a12, a13⟩ := u
  unfold wpX_conflicts
  refine tq_tryStep h f1 (fun u1 k1 => ?_)
  obtain ⟨F1, k1, q1⟩ := k1
  have t := H _ ⟨F1, k1⟩
  obtain ⟨mdb, pfb, pib, acb, ccb, alb, stb, dpb, a1b, a2b, a3b, a4b, a5b, a6b, a7b, a8b, a9b, a10b, a11b, a12b, a13b⟩ := u1
  obtain ⟨k1a, k1b, k1c, k1d, k1e⟩ := k1
  subst k1e
  have e : ccb = nI z.2.2.2.1.length := q1.2.2.1
  rw [tq_iN, ← e] at t
  exact t
theorem tq_wAction {post : Int32 → St2 → Prop} {v : Int32} {m m' : tq_M} {u : St2} {i w : Nat} {r : Int} (h : tq_S v m u) (hf : tq_action i w m = some (r, m')) (hi : i < 84) (hw : w < 2)
    (H : ∀ u', tq_S v m' u' → post (Int32.ofInt r) u') : wpX_action post u (nI i) (nI w) := by
  obtain ⟨z, f1, f2⟩ := tq_mapS hf
  obtain ⟨e1, rfl⟩ := Prod.mk.inj f2
  obtain ⟨md, pf, pi, ac, cc, al, st, dp, a1, a2, a3, a4, a5, a6, a7, a8, a9, a10, a11, a12, a13⟩ := u
  refine br_f (nI_pos (by omega)) (br_t (nI_le (b := 1) (by omega) (by decide)) ?_)
  refine tq_tryStep h f1 (fun u1 k1 => ?_)
  obtain ⟨F1, k1, q1⟩ := k1
  have t := H _ ⟨F1, k1⟩
  obtain ⟨mdb, pfb, pib, acb, ccb, alb, stb, dpb, a1b, a2b, a3b, a4b, a5b, a6b, a7b, a8b, a9b, a10b, a11b, a12b, a13b⟩ := u1
  obtain ⟨k1a, k1b, k1c, k1d, k1e⟩ := k1
  subst k1e
  have e : acb = nI z.2.2.1.length := q1.2.1
  have q7 : ∀ i, i < z.2.2.1.length → a9b i = nI (z.2.2.1.getD i (0, 0)).1 ∧ a10b i = nI (z.2.2.1.getD i (0, 0)).2 := q1.2.2.2.2.2.2.1
  have lb : z.2.2.1.length < 2 ^ 31 := by have := (tq_try_s f1).choose_spec.2.2.1; omega
  refine br_f (nI_pos (by omega)) (pk_lt i z.2.2.1.length (fun y => ?_) (fun y => ?_) rfl e)
  · rw [if_pos y] at e1
    rw [nI_clamp (show i < 2 ^ 31 by omega), (q7 i y).1, (q7 i y).2]
    refine pk_eq w 0 (fun y2 => ⟨pk_in i 84 hi, ?_⟩) (fun y2 => ⟨pk_in i 84 hi, ?_⟩)
    · rw [if_pos y2] at e1
      rw [← e1, tq_iN] at t
      exact t
    · rw [if_neg y2] at e1
      rw [← e1, tq_iN] at t
      exact t
  · rw [if_neg (by omega)] at e1
    rw [← e1, tq_e4] at t
    exact t
theorem tq_wConflict {post : Int32 → St2 → Prop} {v : Int32} {m m' : tq_M} {u : St2} {i : Nat} {r : Int} (h : tq_S v m u) (hf : tq_conflict i m = some (r, m')) (hi : i < 84)
    (H : ∀ u', tq_S v m' u' → post (Int32.ofInt r) u') : wpX_conflict post u (nI i) := by
  obtain ⟨z, f1, f2⟩ := tq_mapS hf
  obtain ⟨e1, rfl⟩ := Prod.mk.inj f2
  obtain ⟨md, pf, pi, ac, cc, al, st, dp, a1, a2, a3, a4, a5, a6, a7, a8, a9, a10, a11, a12, a13⟩ := u
  unfold wpX_conflict
  refine tq_tryStep h f1 (fun u1 k1 => ?_)
  obtain ⟨F1, k1, q1⟩ := k1
  have t := H _ ⟨F1, k1⟩
  obtain ⟨mdb, pfb, pib, acb, ccb, alb, stb, dpb, a1b, a2b, a3b, a4b, a5b, a6b, a7b, a8b, a9b, a10b, a11b, a12b, a13b⟩ := u1
  obtain ⟨k1a, k1b, k1c, k1d, k1e⟩ := k1
  subst k1e
  have e : ccb = nI z.2.2.2.1.length := q1.2.2.1
  have q8 : ∀ i, i < z.2.2.2.1.length → a11b i = nI (z.2.2.2.1.getD i 0) := q1.2.2.2.2.2.2.2
  have lb : z.2.2.2.1.length < 2 ^ 31 := by have := (tq_try_s f1).choose_spec.2.2.2; omega
  refine br_f (nI_pos (by omega)) (pk_lt i z.2.2.2.1.length (fun y => ?_) (fun y => ?_) rfl e)
  · rw [if_pos y] at e1
    rw [← e1, tq_iN] at t
    rw [nI_clamp (show i < 2 ^ 31 by omega), q8 i y]
    exact ⟨pk_in i 84 hi, t⟩
  · rw [if_neg (by omega)] at e1
    rw [← e1, tq_e4] at t
    exact t
theorem tq_wStep {post : Int32 → St2 → Prop} {v : Int32} {m m' : tq_M} {u : St2} {r : Int} (h : tq_S v m u) (hf : tq_step 84 m = some (r, m'))
    (H : ∀ u', tq_S v m' u' → post (Int32.ofInt r) u') : wpX_step post u := by
  obtain ⟨z, f1, f2⟩ := tq_mapS hf
  obtain ⟨rfl, rfl⟩ := Prod.mk.inj f2
  obtain ⟨md, pf, pi, ac, cc, al, st, dp, a1, a2, a3, a4, a5, a6, a7, a8, a9, a10, a11, a12, a13⟩ := u
  unfold wpX_step
  refine tq_stepAll (aw := 84) h (by decide) f1 (fun u1 k1 => ?_)
  obtain ⟨F1, k1, q1⟩ := k1
  have t := H _ ⟨F1, k1⟩
  obtain ⟨mdb, pfb, pib, acb, ccb, alb, stb, dpb, a1b, a2b, a3b, a4b, a5b, a6b, a7b, a8b, a9b, a10b, a11b, a12b, a13b⟩ := u1
  obtain ⟨k1a, k1b, k1c, k1d, k1e⟩ := k1
  subst k1e
  have e : acb = nI z.2.2.1.length := q1.2.1
  rw [tq_iN, ← e] at t
  exact t
theorem tq_wStepSome {post : Int32 → St2 → Prop} {v : Int32} {m m' : tq_M} {u : St2} {n : Nat} {r : Int} (h : tq_S v m u) (hf : tq_step n m = some (r, m')) (hn : n < 2 ^ 31)
    (H : ∀ u', tq_S v m' u' → post (Int32.ofInt r) u') : wpX_stepSome post u (nI n) := by
  obtain ⟨z, f1, f2⟩ := tq_mapS hf
  obtain ⟨rfl, rfl⟩ := Prod.mk.inj f2
  obtain ⟨md, pf, pi, ac, cc, al, st, dp, a1, a2, a3, a4, a5, a6, a7, a8, a9, a10, a11, a12, a13⟩ := u
  refine br_t (nI_pos' hn) (tq_stepAll h hn f1 (fun u1 k1 => ?_))
  obtain ⟨F1, k1, q1⟩ := k1
  have t := H _ ⟨F1, k1⟩
  obtain ⟨mdb, pfb, pib, acb, ccb, alb, stb, dpb, a1b, a2b, a3b, a4b, a5b, a6b, a7b, a8b, a9b, a10b, a11b, a12b, a13b⟩ := u1
  obtain ⟨k1a, k1b, k1c, k1d, k1e⟩ := k1
  subst k1e
  have e : acb = nI z.2.2.1.length := q1.2.1
  rw [tq_iN, ← e] at t
  exact t
end
section
/-! the constructor -/
theorem tq_cn_zero {a : Nat → Int32} : ∀ k, (∀ h, h < k → a h = -1) → tq_cn a k = 0 := by
  intro k
  induction k with
  | zero => intro _; rfl
  | succ k ih =>
    intro h
    unfold tq_cn
    rw [ih (fun j hj => h j (by omega)), if_pos (h k (by omega))]
theorem tq_k00 (j : Nat) : tq_k 0 0 j = 0 := by
  unfold tq_k tq_en
  rw [Nat.zero_shiftRight, Nat.zero_mod, Nat.zero_shiftRight, Nat.zero_mod]
theorem tq_hp0 (v : Int32) {a4 : Nat → Int32} (h : ∀ j, j < 2048 → a4 j = -1) : tq_hp v 1 0 1 (fun _ => 0) (fun _ => 0) (fun _ => 0) a4 := by
  have e0 : tq_en 0 0 = 0 := by decide
  refine ⟨⟨by omega, by omega, by decide, e0, fun c hc => ?_, fun c h1 h2 => absurd h1 (by omega), fun c d hc hd _ => by omega⟩, ⟨rfl, fun c hc => ?_⟩, fun s hs => Or.inl (h s hs), fun c h1 h2 => absurd h1 (by omega), by rw [tq_cn_zero 2048 h]; omega⟩
  · rw [show c = 0 by omega, e0]
    exact ⟨by decide, fun j _ => by rw [tq_k00]; omega⟩
  · rw [show c = 0 by omega]
    refine ⟨by decide, rfl, fun j _ => by rw [tq_k00]; rfl⟩
theorem tq_st40 {post : St2 → Prop} {md pf pi ac cc al st dp : Int32} {a1 a2 a3 a4 a5 a7 a8 a9 a10 a11 a12 a13 : Nat → Int32} (H : ∀ x6, (∀ j, j < 9 → x6 j = nI 1) → post (md, pf, pi, ac, cc, al, st, dp, a1, a2, a3, a4, a5, x6, a7, a8, a9, a10, a11, a12, a13)) :
    ∀ k i x6, i + k = 9 → (∀ j, j < i → x6 j = nI 1) → wX_start_40 post (nI 1) md pf pi ac cc al st dp (k + 1) (nI i) a1 a2 a3 a4 a5 x6 a7 a8 a9 a10 a11 a12 a13 := by
  intro k
  induction k with
  | zero =>
    intro i x6 hi hx
    exact pk_le 9 i (fun _ => H x6 (fun j hj => hx j (by omega))) (fun z => absurd z (by omega))
  | succ k ih =>
    intro i x6 hi hx
    refine pk_le 9 i (fun z => absurd z (by omega)) (fun _ => ⟨pk_in i 9 (by omega), ?_⟩)
    rw [nI_clamp (show i < 2 ^ 31 by omega)]
    refine nm_e (nm_r (nI_1 i) (ih (i + 1) _ (by omega) (fun j hj => ?_)))
    by_cases y : j = i
    · rw [y, pk_us]
    · rw [pk_un y]; exact hx j (by omega)
theorem tq_m0_ok {v : Int32} {md pi ac cc al st dp : Int32} {a1 a2 a3 a4 a5 a6 a8 a9 a10 a11 a12 a13 : Nat → Int32} (hp : tq_hp v 2 18446744073709551616 md a1 a2 a3 a4) (h6 : ∀ j, j < 9 → a6 j = nI 1) : tq_S v tq_m0 (md, (-1), pi, ac, cc, al, st, dp, a1, a2, a3, a4, a5, a6, (fun _ => 0), a8, a9, a10, a11, a12, a13) := by
  refine ⟨_, hp, ⟨rfl, fun t ht => ?_⟩, ⟨rfl, fun k hk => ?_⟩, ⟨by decide, by decide⟩, rfl⟩
  · have e : tq_m0.2.2.1.getD t 0 = 1 := by
      rcases (show t = 0 ∨ t = 1 ∨ t = 2 ∨ t = 3 ∨ t = 4 ∨ t = 5 ∨ t = 6 ∨ t = 7 ∨ t = 8 by omega) with y | y | y | y | y | y | y | y | y <;> (subst y; rfl)
    rw [e]
    exact ⟨h6 t ht, by decide⟩
  · have e : tq_m0.2.2.2.1.getD k false = false := by
      rcases (show k = 0 ∨ k = 1 ∨ k = 2 by omega) with y | y | y <;> (subst y; rfl)
    rw [e]
    rfl
theorem tq_st7 {post : St2 → Prop} {v : Int32} {pi ac cc al st dp : Int32} {a5 a6 a8 a9 a10 a11 a12 a13 : Nat → Int32} (H : ∀ u', tq_S v tq_m0 u' → post u') :
    ∀ k i x4, i + k = 2048 → (∀ j, j < i → x4 j = -1) → wX_start_7 post 1 (-1) pi ac cc al st dp (k + 1) (nI i) (fun _ => 0) (fun _ => 0) (fun _ => 0) x4 a5 a6 (fun _ => 0) a8 a9 a10 a11 a12 a13 := by
  intro k
  induction k with
  | zero =>
    intro i x4 hi hx
    refine pk_le 2048 i (fun _ => ?_) (fun z => absurd z (by omega))
    have e : tq_ct 1 0 (tq_mk 1 0 0 0 0) = (1, 2, 18446744073709551616) := by decide
    refine tq_contentF 0 0 0 0 (tq_hp0 v (fun j hj => hx j (by omega))) (by omega) (by omega) (by omega) (by omega) (by omega) ?_
    rw [e]
    intro md' a1' a2' a3' a4' h'
    exact ⟨10, tq_st40 (fun x6 h6 => H _ (tq_m0_ok h' h6)) 9 0 a6 (by omega) (fun j hj => absurd hj (Nat.not_lt_zero j))⟩
  | succ k ih =>
    intro i x4 hi hx
    refine pk_le 2048 i (fun z => absurd z (by omega)) (fun _ => ⟨pk_in i 2048 (by omega), ?_⟩)
    rw [nI_clamp (show i < 2 ^ 31 by omega)]
    refine nm_e (nm_r (nI_1 i) (ih (i + 1) _ (by omega) (fun j hj => ?_)))
    by_cases y : j = i
    · rw [y, pk_us]
    · rw [pk_un y]; exact hx j (by omega)
theorem tq_init {post : St2 → Prop} (v : Int32) (H : ∀ u', tq_S v tq_m0 u' → post u') : wpX_init post 13 9577 (0, 0, 0, 0, 0, 0, 0, 0) := by
  refine ⟨by decide, by decide, by decide, by decide, by decide, by decide, by decide, by decide, by decide, by decide, by decide, by decide, by decide, by decide, by decide, by decide, by decide, by decide, by decide, by decide, by decide, by decide, by decide, by decide, by decide, by decide, ?_⟩
  exact ⟨2049, tq_st7 (v := v) (fun u' h' => by obtain ⟨md, pf, pi, ac, cc, al, st, dp, a1, a2, a3, a4, a5, a6, a7, a8, a9, a10, a11, a12, a13⟩ := u'; exact H _ h') 2048 0 _ (by omega) (fun j hj => absurd hj (Nat.not_lt_zero j))⟩
end
section
/-! the ops at arguments given by equations; bad arguments; peeling a run -/
theorem tq_peel {f : tq_O} {e : Int} {t : List (tq_O × Int)} {m mE : tq_M} (h : tq_run ((f, e) :: t) m = some mE) : ∃ m', f m = some (e, m') ∧ tq_run t m' = some mE := by
  have h' : (match f m with
    | some y => if y.1 = e then tq_run t y.2 else none
    | none => none) = some mE := h
  cases hf : f m with
  | none => rw [hf] at h'; exact absurd h'.symm (Option.some_ne_none _)
  | some y =>
    rw [hf] at h'
    obtain ⟨r, m'⟩ := y
    have h2 : (if r = e then tq_run t m' else none) = some mE := h'
    by_cases z : r = e
    · rw [if_pos z] at h2
      exact ⟨m', by rw [z], h2⟩
    · rw [if_neg z] at h2
      exact absurd h2.symm (Option.some_ne_none _)
theorem tq_nil {m mE : tq_M} (h : tq_run [] m = some mE) : m = mE := Option.some.inj h
theorem tq_peels {x : List (tq_O × Int)} {t : List (List (tq_O × Int))} {m mE : tq_M} (h : tq_runs (x :: t) m = some mE) : ∃ m', tq_run x m = some m' ∧ tq_runs t m' = some mE := by
  have h' : (match tq_run x m with
    | some y => tq_runs t y
    | none => none) = some mE := h
  cases hf : tq_run x m with
  | none => rw [hf] at h'; exact absurd h'.symm (Option.some_ne_none _)
  | some y =>
    rw [hf] at h'
    exact ⟨y, rfl, h'⟩
theorem tq_xWrite {post : Int32 → St2 → Prop} {v x xs xp : Int32} {m m' : tq_M} {u : St2} {s p k : Nat} {r : Int} (es : xs = nI s) (ep : xp = nI p) (h : tq_S v m u) (hf : tq_write s p k m = some (r, m')) (hx : 0 ≤ r → x = v + nI k)
    (H : ∀ u', tq_S v m' u' → post (Int32.ofInt r) u') : wpX_write post u xs xp x := by
  subst es ep; exact tq_wWrite h hf hx H
theorem tq_xFolder {post : Int32 → St2 → Prop} {v xs xp : Int32} {m m' : tq_M} {u : St2} {s p : Nat} {r : Int} (es : xs = nI s) (ep : xp = nI p) (h : tq_S v m u) (hf : tq_folder s p m = some (r, m'))
    (H : ∀ u', tq_S v m' u' → post (Int32.ofInt r) u') : wpX_folder post u xs xp := by
  subst es ep; exact tq_wFolder h hf H
theorem tq_xRemove {post : Int32 → St2 → Prop} {v xs xp : Int32} {m m' : tq_M} {u : St2} {s p : Nat} {r : Int} (es : xs = nI s) (ep : xp = nI p) (h : tq_S v m u) (hf : tq_remove s p m = some (r, m'))
    (H : ∀ u', tq_S v m' u' → post (Int32.ofInt r) u') : wpX_remove post u xs xp := by
  subst es ep; exact tq_wRemove h hf H
theorem tq_xMove {post : Int32 → St2 → Prop} {v xs xp xq : Int32} {m m' : tq_M} {u : St2} {s p q : Nat} {r : Int} (es : xs = nI s) (ep : xp = nI p) (eq : xq = nI q) (h : tq_S v m u) (hf : tq_move s p q m = some (r, m'))
    (H : ∀ u', tq_S v m' u' → post (Int32.ofInt r) u') : wpX_move post u xs xp xq := by
  subst es ep eq; exact tq_wMove h hf H
theorem tq_xCopy {post : Int32 → St2 → Prop} {v xs xp xq : Int32} {m m' : tq_M} {u : St2} {s p q : Nat} {r : Int} (es : xs = nI s) (ep : xp = nI p) (eq : xq = nI q) (h : tq_S v m u) (hf : tq_copy s p q m = some (r, m'))
    (H : ∀ u', tq_S v m' u' → post (Int32.ofInt r) u') : wpX_copy post u xs xp xq := by
  subst es ep eq; exact tq_wCopy h hf H
theorem tq_xKind {post : Int32 → St2 → Prop} {v xs xp : Int32} {m m' : tq_M} {u : St2} {s p : Nat} {r : Int} (es : xs = nI s) (ep : xp = nI p) (h : tq_S v m u) (hf : tq_kind s p m = some (r, m'))
    (H : ∀ u', tq_S v m' u' → post (Int32.ofInt r) u') : wpX_kind post u xs xp := by
  subst es ep; exact tq_wKind h hf H
theorem tq_xNumber {post : Int32 → St2 → Prop} {v xs xp : Int32} {m m' : tq_M} {u : St2} {s p : Nat} {r : Int} (es : xs = nI s) (ep : xp = nI p) (h : tq_S v m u) (hf : tq_number s p m = some (r, m'))
    (H : ∀ u', tq_S v m' u' → post (tq_nA v r) u') : wpX_number post u xs xp := by
  subst es ep; exact tq_wNumber h hf H
theorem tq_xTwins {post : Int32 → St2 → Prop} {v xs xp : Int32} {m m' : tq_M} {u : St2} {s p : Nat} {r : Int} (es : xs = nI s) (ep : xp = nI p) (h : tq_S v m u) (hf : tq_twins s p m = some (r, m'))
    (H : ∀ u', tq_S v m' u' → post (Int32.ofInt r) u') : wpX_twins post u xs xp := by
  subst es ep; exact tq_wTwins h hf H
theorem tq_xLast {post : Int32 → St2 → Prop} {v xp : Int32} {m m' : tq_M} {u : St2} {p : Nat} {r : Int} (ep : xp = nI p) (h : tq_S v m u) (hf : tq_last p m = some (r, m'))
    (H : ∀ u', tq_S v m' u' → post (Int32.ofInt r) u') : wpX_lastKind post u xp := by
  subst ep; exact tq_wLast h hf H
theorem tq_xSize {post : Int32 → Prop} {v xs : Int32} {m m' : tq_M} {u : St2} {s : Nat} {r : Int} (es : xs = nI s) (h : tq_S v m u) (hf : tq_size s m = some (r, m'))
    (H : m' = m → post (Int32.ofInt r)) : wpX_size post u xs := by
  subst es; exact tq_wSize h hf H
theorem tq_xChanged {post : Int32 → St2 → Prop} {v xs : Int32} {m m' : tq_M} {u : St2} {s : Nat} {r : Int} (es : xs = nI s) (h : tq_S v m u) (hf : tq_changed s m = some (r, m'))
    (H : ∀ u', tq_S v m' u' → post (Int32.ofInt r) u') : wpX_changed post u xs := by
  subst es; exact tq_wChanged h hf H
theorem tq_xKeep {post : Int32 → St2 → Prop} {v xs xk : Int32} {m m' : tq_M} {u : St2} {s k : Nat} {r : Int} (es : xs = nI s) (ek : xk = nI k) (h : tq_S v m u) (hf : tq_keep s k m = some (r, m'))
    (H : ∀ u', tq_S v m' u' → post (Int32.ofInt r) u') : wpX_keep post u xs xk := by
  subst es ek; exact tq_wKeep h hf H
theorem tq_xRestore {post : Int32 → St2 → Prop} {v xs xk : Int32} {m m' : tq_M} {u : St2} {s k : Nat} {r : Int} (es : xs = nI s) (ek : xk = nI k) (h : tq_S v m u) (hf : tq_restore s k m = some (r, m'))
    (H : ∀ u', tq_S v m' u' → post (Int32.ofInt r) u') : wpX_restore post u xs xk := by
  subst es ek; exact tq_wRestore h hf H
theorem tq_xAction {post : Int32 → St2 → Prop} {v xi xw : Int32} {m m' : tq_M} {u : St2} {i w : Nat} {r : Int} (ei : xi = nI i) (ew : xw = nI w) (h : tq_S v m u) (hf : tq_action i w m = some (r, m')) (hi : i < 84) (hw : w < 2)
    (H : ∀ u', tq_S v m' u' → post (Int32.ofInt r) u') : wpX_action post u xi xw := by
  subst ei ew; exact tq_wAction h hf hi hw H
theorem tq_xConflict {post : Int32 → St2 → Prop} {v xi : Int32} {m m' : tq_M} {u : St2} {i : Nat} {r : Int} (ei : xi = nI i) (h : tq_S v m u) (hf : tq_conflict i m = some (r, m')) (hi : i < 84)
    (H : ∀ u', tq_S v m' u' → post (Int32.ofInt r) u') : wpX_conflict post u xi := by
  subst ei; exact tq_wConflict h hf hi H
theorem tq_xStepSome {post : Int32 → St2 → Prop} {v xn : Int32} {m m' : tq_M} {u : St2} {n : Nat} {r : Int} (en : xn = nI n) (h : tq_S v m u) (hf : tq_step n m = some (r, m')) (hn : n < 2 ^ 31)
    (H : ∀ u', tq_S v m' u' → post (Int32.ofInt r) u') : wpX_stepSome post u xn := by
  subst en; exact tq_wStepSome h hf hn H
/-! answers -/
theorem tq_nA0 (v : Int32) : tq_nA v 0 = v := by
  show v + Int32.ofInt 0 = v
  rw [tq_i0, Int32.add_zero]
theorem tq_nA1 (v : Int32) : tq_nA v 1 = v + 1 := by
  show v + Int32.ofInt 1 = v + 1
  rw [tq_i1]
theorem tq_nA3 (v : Int32) : tq_nA v 3 = v + 3 := by
  show v + Int32.ofInt 3 = v + 3
  rw [show Int32.ofInt 3 = 3 by decide]
theorem tq_nAn (v : Int32) : tq_nA v (-1000000004) = -1000000004 := tq_e4
theorem tq_v0 (v : Int32) : v = v + nI 0 := by rw [nI_0, Int32.add_zero]
/-! paths -/
theorem tq_p1 : ∀ a, a < 4 → ∀ b, b < 4 → (4 : Int32) + 4 * nI a + nI b = nI (4 + 4 * a + b) := by decide +kernel
theorem tq_p2 : ∀ a, a < 4 → ∀ b, b < 4 → (20 : Int32) + 4 * (nI (4 + 4 * a + b) - 4) = nI (20 + 16 * a + 4 * b) := by decide +kernel
theorem tq_p3 : ∀ a, a < 4 → ∀ b, b < 4 → (4 : Int32) + 4 * nI a + (nI b ^^^ 1) = nI (4 + 4 * a + (b ^^^ 1)) := by decide +kernel
theorem tq_p4 : ∀ a, a < 4 → nI a ^^^ 1 = nI (a ^^^ 1) := by decide +kernel
theorem tq_p5 : ∀ a, a < 4 → nI a ^^^ 2 = nI (a ^^^ 2) := by decide +kernel
theorem tq_p6 : ∀ a, a < 4 → (4 : Int32) + 4 * nI (a ^^^ 1) = nI (4 + 4 * (a ^^^ 1)) := by decide +kernel
theorem tq_p7 : ∀ a, a < 4 → (4 : Int32) + 4 * nI (a ^^^ 1) + 2 = nI (4 + 4 * (a ^^^ 1) + 2) := by decide +kernel
theorem tq_p8 : ∀ a, a < 4 → (20 : Int32) + 4 * (4 * nI (a ^^^ 1) + 2) + 3 = nI (20 + 4 * (4 * (a ^^^ 1) + 2) + 3) := by decide +kernel
theorem tq_p9 : ∀ a, a < 4 → ∀ b, b < 4 → nI (4 + 4 * a + b) ^^^ 1 = nI ((4 + 4 * a + b) ^^^ 1) := by decide +kernel
theorem tq_p10 : ∀ a, a < 4 → (4 : Int32) + 4 * (nI a ^^^ 2) + 2 = nI (4 + 4 * (a ^^^ 2) + 2) := by decide +kernel
/-! bad arguments -/
theorem tq_bs1 {post : Int32 → Prop} {u : St2} {x : Int32} (hx : ¬ x < 0) (hx2 : ¬ x ≤ 1) (h : post 1) : wpX_badSide post u x := by
  obtain ⟨md, pf, pi, ac, cc, al, st, dp, a1, a2, a3, a4, a5, a6, a7, a8, a9, a10, a11, a12, a13⟩ := u
  exact br_f hx (br_f hx2 h)
theorem tq_bs2 {post : Int32 → Prop} {u : St2} {x : Int32} (hx : x < 0) (h : post 1) : wpX_badSide post u x := by
  obtain ⟨md, pf, pi, ac, cc, al, st, dp, a1, a2, a3, a4, a5, a6, a7, a8, a9, a10, a11, a12, a13⟩ := u
  exact br_t hx h
theorem tq_bp1 {post : Int32 → Prop} {u : St2} (h : post 1) : wpX_badPath post u 84 := by
  obtain ⟨md, pf, pi, ac, cc, al, st, dp, a1, a2, a3, a4, a5, a6, a7, a8, a9, a10, a11, a12, a13⟩ := u
  exact br_f (by decide) (br_f (by decide) h)
theorem tq_bKind1 {post : Int32 → St2 → Prop} {u : St2} (h : post (-1000000001) u) : wpX_kind post u 2 0 := by
  obtain ⟨md, pf, pi, ac, cc, al, st, dp, a1, a2, a3, a4, a5, a6, a7, a8, a9, a10, a11, a12, a13⟩ := u
  unfold wpX_kind
  exact tq_bs1 (by decide) (by decide) (br_f (by decide) h)
theorem tq_bKind2 {post : Int32 → St2 → Prop} {u : St2} (h : post (-1000000001) u) : wpX_kind post u 0 84 := by
  obtain ⟨md, pf, pi, ac, cc, al, st, dp, a1, a2, a3, a4, a5, a6, a7, a8, a9, a10, a11, a12, a13⟩ := u
  unfold wpX_kind
  exact tq_badSide0 (s := 0) (by omega) (br_t rfl (tq_bp1 (br_f (by decide) h)))
theorem tq_bLast {post : Int32 → St2 → Prop} {u : St2} (h : post (-1000000001) u) : wpX_lastKind post u (-1) := by
  obtain ⟨md, pf, pi, ac, cc, al, st, dp, a1, a2, a3, a4, a5, a6, a7, a8, a9, a10, a11, a12, a13⟩ := u
  unfold wpX_lastKind
  have t : ∀ q : Int32 → Prop, q 1 → wpX_badPath q (md, pf, pi, ac, cc, al, st, dp, a1, a2, a3, a4, a5, a6, a7, a8, a9, a10, a11, a12, a13) (-1) := fun q hq => br_t (by decide) hq
  exact t _ (br_f (by decide) h)
theorem tq_bSize {post : Int32 → Prop} {u : St2} (h : post (-1000000001)) : wpX_size post u 2 := by
  obtain ⟨md, pf, pi, ac, cc, al, st, dp, a1, a2, a3, a4, a5, a6, a7, a8, a9, a10, a11, a12, a13⟩ := u
  unfold wpX_size
  exact tq_bs1 (by decide) (by decide) (br_f (by decide) h)
theorem tq_bChanged {post : Int32 → St2 → Prop} {u : St2} (h : post (-1000000001) u) : wpX_changed post u (-1) := by
  obtain ⟨md, pf, pi, ac, cc, al, st, dp, a1, a2, a3, a4, a5, a6, a7, a8, a9, a10, a11, a12, a13⟩ := u
  unfold wpX_changed
  exact tq_bs2 (by decide) (br_f (by decide) h)
theorem tq_bTwins {post : Int32 → St2 → Prop} {u : St2} (h : post (-1000000001) u) : wpX_twins post u 0 84 := by
  obtain ⟨md, pf, pi, ac, cc, al, st, dp, a1, a2, a3, a4, a5, a6, a7, a8, a9, a10, a11, a12, a13⟩ := u
  unfold wpX_twins
  exact tq_badSide0 (s := 0) (by omega) (br_t rfl (tq_bp1 (br_f (by decide) h)))
theorem tq_bAction {post : Int32 → St2 → Prop} {u : St2} (h : post (-1000000001) u) : wpX_action post u 0 2 := by
  obtain ⟨md, pf, pi, ac, cc, al, st, dp, a1, a2, a3, a4, a5, a6, a7, a8, a9, a10, a11, a12, a13⟩ := u
  exact br_f (by decide) (br_f (by decide) h)
theorem tq_bPrefer {post : Int32 → St2 → Prop} {u : St2} (h : post (-1000000001) u) : wpX_prefer post u 2 := by
  obtain ⟨md, pf, pi, ac, cc, al, st, dp, a1, a2, a3, a4, a5, a6, a7, a8, a9, a10, a11, a12, a13⟩ := u
  exact br_f (by decide) (tq_bs1 (by decide) (by decide) (br_f (by decide) h))
theorem tq_bStep {post : Int32 → St2 → Prop} {u : St2} (h : post (-1000000001) u) : wpX_stepSome post u (-1) := by
  obtain ⟨md, pf, pi, ac, cc, al, st, dp, a1, a2, a3, a4, a5, a6, a7, a8, a9, a10, a11, a12, a13⟩ := u
  exact br_f (by decide) h
theorem tq_bKeep {post : Int32 → St2 → Prop} {u : St2} (h : post (-1000000001) u) : wpX_keep post u 0 3 := by
  obtain ⟨md, pf, pi, ac, cc, al, st, dp, a1, a2, a3, a4, a5, a6, a7, a8, a9, a10, a11, a12, a13⟩ := u
  unfold wpX_keep
  have t : ∀ q : Int32 → Prop, q 1 → wpX_badPlace q (md, pf, pi, ac, cc, al, st, dp, a1, a2, a3, a4, a5, a6, a7, a8, a9, a10, a11, a12, a13) 3 := fun q hq => br_f (by decide) (br_f (by decide) hq)
  exact tq_badSide0 (s := 0) (by omega) (br_t rfl (t _ (br_f (by decide) h)))
theorem tq_bRestore {post : Int32 → St2 → Prop} {u : St2} (h : post (-1000000001) u) : wpX_restore post u 2 0 := by
  obtain ⟨md, pf, pi, ac, cc, al, st, dp, a1, a2, a3, a4, a5, a6, a7, a8, a9, a10, a11, a12, a13⟩ := u
  unfold wpX_restore
  exact tq_bs1 (by decide) (by decide) (br_f (by decide) h)
theorem tq_bCopy {post : Int32 → St2 → Prop} {u : St2} (h : post (-1000000001) u) : wpX_copy post u 0 0 84 := by
  obtain ⟨md, pf, pi, ac, cc, al, st, dp, a1, a2, a3, a4, a5, a6, a7, a8, a9, a10, a11, a12, a13⟩ := u
  unfold wpX_copy
  have t : ∀ q : Int32 → St2 → Prop, q (-1000000001) (md, pf, pi, ac, cc, al, st, dp, a1, a2, a3, a4, a5, a6, a7, a8, a9, a10, a11, a12, a13) → wpX_refused q (md, pf, pi, ac, cc, al, st, dp, a1, a2, a3, a4, a5, a6, a7, a8, a9, a10, a11, a12, a13) 0 0 84 := by
    intro q hq
    unfold wpX_refused
    exact tq_badSide0 (s := 0) (by omega) (br_t rfl (tq_badPath0 (p := 0) (by omega) (br_t rfl (tq_bp1 (br_f (by decide) hq)))))
  exact t _ (br_f (by decide) h)
end
section
/-! the law: fill (printed by law.py) -/
theorem tq_lFill {post : Int32 → St2 → Prop} {v : Int32} {m mE : tq_M} {a b : Nat} {md pf pi ac cc al st dp : Int32} {a1 a2 a3 a4 a5 a6 a7 a8 a9 a10 a11 a12 a13 : Nat → Int32} (ha : a < 4) (hb : b < 4) (h : tq_S v m (md, pf, pi, ac, cc, al, st, dp, a1, a2, a3, a4, a5, a6, a7, a8, a9, a10, a11, a12, a13)) (hr : tq_run (tq_fill a b) m = some mE)
    (H : ∀ u', tq_S v mE u' → post 1 u') : wpL_fill post (md, pf, pi, ac, cc, al, st, dp, a1, a2, a3, a4, a5, a6, a7, a8, a9, a10, a11, a12, a13) 0 (nI a) (nI b) v := by
  unfold tq_fill at hr
  refine nm_r (tq_p1 a ha b hb) (nm_r (tq_p2 a ha b hb) ?_)
  obtain ⟨_, f, hr⟩ := tq_peel hr
  refine tq_xWrite (s := 0) rfl rfl h f (fun z => absurd z (by decide)) (fun u1 h => ?_)
  obtain ⟨md_1, pf_1, pi_1, ac_1, cc_1, al_1, st_1, dp_1, a1_1, a2_1, a3_1, a4_1, a5_1, a6_1, a7_1, a8_1, a9_1, a10_1, a11_1, a12_1, a13_1⟩ := u1
  refine br_t (by decide) ?_
  obtain ⟨_, f, hr⟩ := tq_peel hr
  refine tq_xFolder (s := 0) rfl rfl h f (fun u1 h => ?_)
  obtain ⟨md_2, pf_2, pi_2, ac_2, cc_2, al_2, st_2, dp_2, a1_2, a2_2, a3_2, a4_2, a5_2, a6_2, a7_2, a8_2, a9_2, a10_2, a11_2, a12_2, a13_2⟩ := u1
  refine br_t (by decide) ?_
  obtain ⟨_, f, hr⟩ := tq_peel hr
  refine tq_xFolder (s := 0) rfl rfl h f (fun u1 h => ?_)
  obtain ⟨md_3, pf_3, pi_3, ac_3, cc_3, al_3, st_3, dp_3, a1_3, a2_3, a3_3, a4_3, a5_3, a6_3, a7_3, a8_3, a9_3, a10_3, a11_3, a12_3, a13_3⟩ := u1
  refine br_t (by decide) ?_
  obtain ⟨_, f, hr⟩ := tq_peel hr
  refine tq_xWrite (s := 0) rfl rfl h f (fun z => absurd z (by decide)) (fun u1 h => ?_)
  obtain ⟨md_4, pf_4, pi_4, ac_4, cc_4, al_4, st_4, dp_4, a1_4, a2_4, a3_4, a4_4, a5_4, a6_4, a7_4, a8_4, a9_4, a10_4, a11_4, a12_4, a13_4⟩ := u1
  refine br_t (by decide) ?_
  obtain ⟨_, f, hr⟩ := tq_peel hr
  refine tq_xFolder (s := 0) rfl rfl h f (fun u1 h => ?_)
  obtain ⟨md_5, pf_5, pi_5, ac_5, cc_5, al_5, st_5, dp_5, a1_5, a2_5, a3_5, a4_5, a5_5, a6_5, a7_5, a8_5, a9_5, a10_5, a11_5, a12_5, a13_5⟩ := u1
  refine br_t (by decide) ?_
  obtain ⟨_, f, hr⟩ := tq_peel hr
  refine tq_xKind (s := 0) rfl rfl h f (fun u1 h => ?_)
  obtain ⟨md_6, pf_6, pi_6, ac_6, cc_6, al_6, st_6, dp_6, a1_6, a2_6, a3_6, a4_6, a5_6, a6_6, a7_6, a8_6, a9_6, a10_6, a11_6, a12_6, a13_6⟩ := u1
  refine br_t (by decide) ?_
  obtain ⟨_, f, hr⟩ := tq_peel hr
  refine tq_xNumber (s := 0) rfl rfl h f (fun u1 h => ?_)
  obtain ⟨md_7, pf_7, pi_7, ac_7, cc_7, al_7, st_7, dp_7, a1_7, a2_7, a3_7, a4_7, a5_7, a6_7, a7_7, a8_7, a9_7, a10_7, a11_7, a12_7, a13_7⟩ := u1
  refine br_t (tq_nAn _) ?_
  refine ⟨5, ?_⟩
  refine br_f (by decide) (br_f (by decide) ?_)
  obtain ⟨_, f, hr⟩ := tq_peel hr
  refine tq_xWrite (s := 0) rfl (Int32.add_zero _) h f (fun _ => tq_v0 _) (fun u1 h => ?_)
  obtain ⟨md_8, pf_8, pi_8, ac_8, cc_8, al_8, st_8, dp_8, a1_8, a2_8, a3_8, a4_8, a5_8, a6_8, a7_8, a8_8, a9_8, a10_8, a11_8, a12_8, a13_8⟩ := u1
  refine br_t (by decide) ?_
  obtain ⟨_, f, hr⟩ := tq_peel hr
  refine tq_xWrite (s := 0) rfl (Int32.add_zero _) h f (fun _ => tq_v0 _) (fun u1 h => ?_)
  obtain ⟨md_9, pf_9, pi_9, ac_9, cc_9, al_9, st_9, dp_9, a1_9, a2_9, a3_9, a4_9, a5_9, a6_9, a7_9, a8_9, a9_9, a10_9, a11_9, a12_9, a13_9⟩ := u1
  refine br_t (by decide) ?_
  obtain ⟨_, f, hr⟩ := tq_peel hr
  refine tq_xSize (s := 0) rfl h f (fun e => ?_)
  rw [e] at hr
  refine br_t (by decide) ?_
  refine nm_r (e' := nI 1) (by decide) ?_
  refine br_f (by decide) (br_f (by decide) ?_)
  obtain ⟨_, f, hr⟩ := tq_peel hr
  refine tq_xWrite (s := 0) rfl (nI_add _ 1) h f (fun _ => tq_v0 _) (fun u1 h => ?_)
  obtain ⟨md_10, pf_10, pi_10, ac_10, cc_10, al_10, st_10, dp_10, a1_10, a2_10, a3_10, a4_10, a5_10, a6_10, a7_10, a8_10, a9_10, a10_10, a11_10, a12_10, a13_10⟩ := u1
  refine br_t (by decide) ?_
  obtain ⟨_, f, hr⟩ := tq_peel hr
  refine tq_xWrite (s := 0) rfl (nI_add _ 1) h f (fun _ => tq_v0 _) (fun u1 h => ?_)
  obtain ⟨md_11, pf_11, pi_11, ac_11, cc_11, al_11, st_11, dp_11, a1_11, a2_11, a3_11, a4_11, a5_11, a6_11, a7_11, a8_11, a9_11, a10_11, a11_11, a12_11, a13_11⟩ := u1
  refine br_t (by decide) ?_
  obtain ⟨_, f, hr⟩ := tq_peel hr
  refine tq_xSize (s := 0) rfl h f (fun e => ?_)
  rw [e] at hr
  refine br_t (by decide) ?_
  refine nm_r (e' := nI 2) (by decide) ?_
  refine br_f (by decide) (br_f (by decide) ?_)
  obtain ⟨_, f, hr⟩ := tq_peel hr
  refine tq_xWrite (s := 0) rfl (nI_add _ 2) h f (fun _ => tq_v0 _) (fun u1 h => ?_)
  obtain ⟨md_12, pf_12, pi_12, ac_12, cc_12, al_12, st_12, dp_12, a1_12, a2_12, a3_12, a4_12, a5_12, a6_12, a7_12, a8_12, a9_12, a10_12, a11_12, a12_12, a13_12⟩ := u1
  refine br_t (by decide) ?_
  obtain ⟨_, f, hr⟩ := tq_peel hr
  refine tq_xWrite (s := 0) rfl (nI_add _ 2) h f (fun _ => tq_v0 _) (fun u1 h => ?_)
  obtain ⟨md_13, pf_13, pi_13, ac_13, cc_13, al_13, st_13, dp_13, a1_13, a2_13, a3_13, a4_13, a5_13, a6_13, a7_13, a8_13, a9_13, a10_13, a11_13, a12_13, a13_13⟩ := u1
  refine br_t (by decide) ?_
  obtain ⟨_, f, hr⟩ := tq_peel hr
  refine tq_xSize (s := 0) rfl h f (fun e => ?_)
  rw [e] at hr
  refine br_t (by decide) ?_
  refine nm_r (e' := nI 3) (by decide) ?_
  refine br_f (by decide) (br_f (by decide) ?_)
  obtain ⟨_, f, hr⟩ := tq_peel hr
  refine tq_xWrite (s := 0) rfl (nI_add _ 3) h f (fun _ => tq_v0 _) (fun u1 h => ?_)
  obtain ⟨md_14, pf_14, pi_14, ac_14, cc_14, al_14, st_14, dp_14, a1_14, a2_14, a3_14, a4_14, a5_14, a6_14, a7_14, a8_14, a9_14, a10_14, a11_14, a12_14, a13_14⟩ := u1
  refine br_t (by decide) ?_
  obtain ⟨_, f, hr⟩ := tq_peel hr
  refine tq_xWrite (s := 0) rfl (nI_add _ 3) h f (fun _ => tq_v0 _) (fun u1 h => ?_)
  obtain ⟨md_15, pf_15, pi_15, ac_15, cc_15, al_15, st_15, dp_15, a1_15, a2_15, a3_15, a4_15, a5_15, a6_15, a7_15, a8_15, a9_15, a10_15, a11_15, a12_15, a13_15⟩ := u1
  refine br_t (by decide) ?_
  obtain ⟨_, f, hr⟩ := tq_peel hr
  refine tq_xSize (s := 0) rfl h f (fun e => ?_)
  rw [e] at hr
  refine br_t (by decide) ?_
  refine nm_r (e' := nI 4) (by decide) ?_
  refine br_t (by decide) (br_f (by decide) ?_)
  obtain ⟨_, f, hr⟩ := tq_peel hr
  refine tq_xTwins (s := 0) rfl rfl h f (fun u1 h => ?_)
  obtain ⟨md_16, pf_16, pi_16, ac_16, cc_16, al_16, st_16, dp_16, a1_16, a2_16, a3_16, a4_16, a5_16, a6_16, a7_16, a8_16, a9_16, a10_16, a11_16, a12_16, a13_16⟩ := u1
  refine br_t (by decide) ?_
  obtain ⟨_, f, hr⟩ := tq_peel hr
  refine tq_xTwins (s := 0) rfl rfl h f (fun u1 h => ?_)
  obtain ⟨md_17, pf_17, pi_17, ac_17, cc_17, al_17, st_17, dp_17, a1_17, a2_17, a3_17, a4_17, a5_17, a6_17, a7_17, a8_17, a9_17, a10_17, a11_17, a12_17, a13_17⟩ := u1
  refine br_t (by decide) ?_
  obtain ⟨_, f, hr⟩ := tq_peel hr
  refine tq_xRemove (s := 0) rfl (tq_p3 a ha b hb) h f (fun u1 h => ?_)
  obtain ⟨md_18, pf_18, pi_18, ac_18, cc_18, al_18, st_18, dp_18, a1_18, a2_18, a3_18, a4_18, a5_18, a6_18, a7_18, a8_18, a9_18, a10_18, a11_18, a12_18, a13_18⟩ := u1
  refine br_t (by decide) ?_
  have e := tq_nil hr
  rw [e] at h
  exact H _ h
end
section
/-! the law: steps (printed by law.py) -/
theorem tq_lSteps4 {post : Int32 → St2 → Prop} {v : Int32} {m mE : tq_M} {a b : Nat} {md pf pi ac cc al st dp : Int32} {a1 a2 a3 a4 a5 a6 a7 a8 a9 a10 a11 a12 a13 : Nat → Int32} (ha : a < 4) (hb : b < 4) (h : tq_S v m (md, pf, pi, ac, cc, al, st, dp, a1, a2, a3, a4, a5, a6, a7, a8, a9, a10, a11, a12, a13)) (hr : tq_run (tq_steps4 a b) m = some mE)
    (H : ∀ u', tq_S v mE u' → post 1 u') : wL_steps_471 post v (nI (4 + 4 * a + b)) (nI (20 + 16 * a + 4 * b)) 1 md pf pi ac cc al st dp a1 a2 a3 a4 a5 a6 a7 a8 a9 a10 a11 a12 a13 := by
  unfold tq_steps4 at hr
  refine br_f (by decide) ?_
  obtain ⟨_, f, hr⟩ := tq_peel hr
  refine tq_xRemove (s := 0) rfl rfl h f (fun u1 h => ?_)
  obtain ⟨md_1, pf_1, pi_1, ac_1, cc_1, al_1, st_1, dp_1, a1_1, a2_1, a3_1, a4_1, a5_1, a6_1, a7_1, a8_1, a9_1, a10_1, a11_1, a12_1, a13_1⟩ := u1
  refine br_t (by decide) ?_
  obtain ⟨_, f, hr⟩ := tq_peel hr
  refine tq_xWrite (s := 1) rfl rfl h f (fun _ => rfl) (fun u1 h => ?_)
  obtain ⟨md_2, pf_2, pi_2, ac_2, cc_2, al_2, st_2, dp_2, a1_2, a2_2, a3_2, a4_2, a5_2, a6_2, a7_2, a8_2, a9_2, a10_2, a11_2, a12_2, a13_2⟩ := u1
  refine br_t (by decide) ?_
  obtain ⟨_, f, hr⟩ := tq_peel hr
  refine tq_wActions h f (fun u1 h => ?_)
  obtain ⟨md_3, pf_3, pi_3, ac_3, cc_3, al_3, st_3, dp_3, a1_3, a2_3, a3_3, a4_3, a5_3, a6_3, a7_3, a8_3, a9_3, a10_3, a11_3, a12_3, a13_3⟩ := u1
  refine br_t (by decide) ?_
  obtain ⟨_, f, hr⟩ := tq_peel hr
  refine tq_xConflict (i := 0) rfl h f (by omega) (fun u1 h => ?_)
  obtain ⟨md_4, pf_4, pi_4, ac_4, cc_4, al_4, st_4, dp_4, a1_4, a2_4, a3_4, a4_4, a5_4, a6_4, a7_4, a8_4, a9_4, a10_4, a11_4, a12_4, a13_4⟩ := u1
  refine br_t (tq_iN _) ?_
  obtain ⟨_, f, hr⟩ := tq_peel hr
  refine tq_wPrefer (P := 1) h f (by decide) (fun u1 h => ?_)
  obtain ⟨md_5, pf_5, pi_5, ac_5, cc_5, al_5, st_5, dp_5, a1_5, a2_5, a3_5, a4_5, a5_5, a6_5, a7_5, a8_5, a9_5, a10_5, a11_5, a12_5, a13_5⟩ := u1
  refine br_t (by decide) ?_
  obtain ⟨_, f, hr⟩ := tq_peel hr
  refine tq_xAction (i := 0) (w := 1) rfl rfl h f (by omega) (by omega) (fun u1 h => ?_)
  obtain ⟨md_6, pf_6, pi_6, ac_6, cc_6, al_6, st_6, dp_6, a1_6, a2_6, a3_6, a4_6, a5_6, a6_6, a7_6, a8_6, a9_6, a10_6, a11_6, a12_6, a13_6⟩ := u1
  refine br_t (by decide) ?_
  obtain ⟨_, f, hr⟩ := tq_peel hr
  refine tq_wStep h f (fun u1 h => ?_)
  obtain ⟨md_7, pf_7, pi_7, ac_7, cc_7, al_7, st_7, dp_7, a1_7, a2_7, a3_7, a4_7, a5_7, a6_7, a7_7, a8_7, a9_7, a10_7, a11_7, a12_7, a13_7⟩ := u1
  refine br_t (by decide) ?_
  obtain ⟨_, f, hr⟩ := tq_peel hr
  refine tq_xSize (s := 1) rfl h f (fun e => ?_)
  rw [e] at hr
  refine br_t (by decide) ?_
  obtain ⟨_, f, hr⟩ := tq_peel hr
  refine tq_xLast rfl h f (fun u1 h => ?_)
  obtain ⟨md_8, pf_8, pi_8, ac_8, cc_8, al_8, st_8, dp_8, a1_8, a2_8, a3_8, a4_8, a5_8, a6_8, a7_8, a8_8, a9_8, a10_8, a11_8, a12_8, a13_8⟩ := u1
  refine br_t (by decide) ?_
  obtain ⟨_, f, hr⟩ := tq_peel hr
  refine tq_wPrefer (P := 0) h f (by decide) (fun u1 h => ?_)
  obtain ⟨md_9, pf_9, pi_9, ac_9, cc_9, al_9, st_9, dp_9, a1_9, a2_9, a3_9, a4_9, a5_9, a6_9, a7_9, a8_9, a9_9, a10_9, a11_9, a12_9, a13_9⟩ := u1
  refine br_t (by decide) ?_
  have e := tq_nil hr
  rw [e] at h
  exact H _ h
theorem tq_lSteps3 {post : Int32 → St2 → Prop} {v : Int32} {m mE : tq_M} {a b : Nat} {md pf pi ac cc al st dp : Int32} {a1 a2 a3 a4 a5 a6 a7 a8 a9 a10 a11 a12 a13 : Nat → Int32} (ha : a < 4) (hb : b < 4) (h : tq_S v m (md, pf, pi, ac, cc, al, st, dp, a1, a2, a3, a4, a5, a6, a7, a8, a9, a10, a11, a12, a13)) (hr : tq_run (tq_steps3 a b) m = some mE)
    (H : ∀ mdy pfy piy acy ccy aly sty dpy a1y a2y a3y a4y a5y a6y a7y a8y a9y a10y a11y a12y a13y, tq_S v mE (mdy, pfy, piy, acy, ccy, aly, sty, dpy, a1y, a2y, a3y, a4y, a5y, a6y, a7y, a8y, a9y, a10y, a11y, a12y, a13y) → wL_steps_471 post v (nI (4 + 4 * a + b)) (nI (20 + 16 * a + 4 * b)) 1 mdy pfy piy acy ccy aly sty dpy a1y a2y a3y a4y a5y a6y a7y a8y a9y a10y a11y a12y a13y) : wL_steps_327 post v (nI (4 + 4 * a + b)) (nI (20 + 16 * a + 4 * b)) 1 md pf pi ac cc al st dp a1 a2 a3 a4 a5 a6 a7 a8 a9 a10 a11 a12 a13 := by
  unfold tq_steps3 at hr
  refine br_f (by decide) ?_
  obtain ⟨_, f, hr⟩ := tq_peel hr
  refine tq_xStepSome (n := 1) rfl h f (by omega) (fun u1 h => ?_)
  obtain ⟨md_1, pf_1, pi_1, ac_1, cc_1, al_1, st_1, dp_1, a1_1, a2_1, a3_1, a4_1, a5_1, a6_1, a7_1, a8_1, a9_1, a10_1, a11_1, a12_1, a13_1⟩ := u1
  refine br_t (by decide) ?_
  obtain ⟨_, f, hr⟩ := tq_peel hr
  refine tq_xNumber (s := 1) rfl rfl h f (fun u1 h => ?_)
  obtain ⟨md_2, pf_2, pi_2, ac_2, cc_2, al_2, st_2, dp_2, a1_2, a2_2, a3_2, a4_2, a5_2, a6_2, a7_2, a8_2, a9_2, a10_2, a11_2, a12_2, a13_2⟩ := u1
  refine br_t (tq_nA1 _) ?_
  obtain ⟨_, f, hr⟩ := tq_peel hr
  refine tq_xKind (s := 0) rfl (nI_add _ 1) h f (fun u1 h => ?_)
  obtain ⟨md_3, pf_3, pi_3, ac_3, cc_3, al_3, st_3, dp_3, a1_3, a2_3, a3_3, a4_3, a5_3, a6_3, a7_3, a8_3, a9_3, a10_3, a11_3, a12_3, a13_3⟩ := u1
  refine br_t (by decide) ?_
  obtain ⟨_, f, hr⟩ := tq_peel hr
  refine tq_wStep h f (fun u1 h => ?_)
  obtain ⟨md_4, pf_4, pi_4, ac_4, cc_4, al_4, st_4, dp_4, a1_4, a2_4, a3_4, a4_4, a5_4, a6_4, a7_4, a8_4, a9_4, a10_4, a11_4, a12_4, a13_4⟩ := u1
  refine br_t (by decide) ?_
  obtain ⟨_, f, hr⟩ := tq_peel hr
  refine tq_xKind (s := 0) rfl (nI_add _ 1) h f (fun u1 h => ?_)
  obtain ⟨md_5, pf_5, pi_5, ac_5, cc_5, al_5, st_5, dp_5, a1_5, a2_5, a3_5, a4_5, a5_5, a6_5, a7_5, a8_5, a9_5, a10_5, a11_5, a12_5, a13_5⟩ := u1
  refine br_t (by decide) ?_
  obtain ⟨_, f, hr⟩ := tq_peel hr
  refine tq_wSame h f (fun e => ?_)
  rw [e] at hr
  refine br_t (by decide) ?_
  obtain ⟨_, f, hr⟩ := tq_peel hr
  refine tq_wConflicts h f (fun u1 h => ?_)
  obtain ⟨md_6, pf_6, pi_6, ac_6, cc_6, al_6, st_6, dp_6, a1_6, a2_6, a3_6, a4_6, a5_6, a6_6, a7_6, a8_6, a9_6, a10_6, a11_6, a12_6, a13_6⟩ := u1
  refine br_t (by decide) ?_
  obtain ⟨_, f, hr⟩ := tq_peel hr
  refine tq_wPrefer (P := 2) h f (by decide) (fun u1 h => ?_)
  obtain ⟨md_7, pf_7, pi_7, ac_7, cc_7, al_7, st_7, dp_7, a1_7, a2_7, a3_7, a4_7, a5_7, a6_7, a7_7, a8_7, a9_7, a10_7, a11_7, a12_7, a13_7⟩ := u1
  refine br_t (by decide) ?_
  obtain ⟨_, f, hr⟩ := tq_peel hr
  refine tq_wActions h f (fun u1 h => ?_)
  obtain ⟨md_8, pf_8, pi_8, ac_8, cc_8, al_8, st_8, dp_8, a1_8, a2_8, a3_8, a4_8, a5_8, a6_8, a7_8, a8_8, a9_8, a10_8, a11_8, a12_8, a13_8⟩ := u1
  refine br_t (by decide) ?_
  obtain ⟨_, f, hr⟩ := tq_peel hr
  refine tq_wStep h f (fun u1 h => ?_)
  obtain ⟨md_9, pf_9, pi_9, ac_9, cc_9, al_9, st_9, dp_9, a1_9, a2_9, a3_9, a4_9, a5_9, a6_9, a7_9, a8_9, a9_9, a10_9, a11_9, a12_9, a13_9⟩ := u1
  refine br_t (by decide) ?_
  obtain ⟨_, f, hr⟩ := tq_peel hr
  refine tq_xNumber (s := 0) rfl (nI_add _ 2) h f (fun u1 h => ?_)
  obtain ⟨md_10, pf_10, pi_10, ac_10, cc_10, al_10, st_10, dp_10, a1_10, a2_10, a3_10, a4_10, a5_10, a6_10, a7_10, a8_10, a9_10, a10_10, a11_10, a12_10, a13_10⟩ := u1
  refine br_t (tq_nA3 _) ?_
  obtain ⟨_, f, hr⟩ := tq_peel hr
  refine tq_wSame h f (fun e => ?_)
  rw [e] at hr
  refine br_f (by decide) ?_
  obtain ⟨_, f, hr⟩ := tq_peel hr
  refine tq_wConflicts h f (fun u1 h => ?_)
  obtain ⟨md_11, pf_11, pi_11, ac_11, cc_11, al_11, st_11, dp_11, a1_11, a2_11, a3_11, a4_11, a5_11, a6_11, a7_11, a8_11, a9_11, a10_11, a11_11, a12_11, a13_11⟩ := u1
  refine br_t (by decide) ?_
  obtain ⟨_, f, hr⟩ := tq_peel hr
  refine tq_xSize (s := 0) rfl h f (fun e => ?_)
  rw [e] at hr
  refine br_t (by decide) ?_
  have e := tq_nil hr
  rw [e] at h
  exact H _ _ _ _ _ _ _ _ _ _ _ _ _ _ _ _ _ _ _ _ _ h
theorem tq_lSteps2 {post : Int32 → St2 → Prop} {v : Int32} {m mE : tq_M} {a b : Nat} {md pf pi ac cc al st dp : Int32} {a1 a2 a3 a4 a5 a6 a7 a8 a9 a10 a11 a12 a13 : Nat → Int32} (ha : a < 4) (hb : b < 4) (h : tq_S v m (md, pf, pi, ac, cc, al, st, dp, a1, a2, a3, a4, a5, a6, a7, a8, a9, a10, a11, a12, a13)) (hr : tq_run (tq_steps2 a b) m = some mE)
    (H : ∀ mdy pfy piy acy ccy aly sty dpy a1y a2y a3y a4y a5y a6y a7y a8y a9y a10y a11y a12y a13y, tq_S v mE (mdy, pfy, piy, acy, ccy, aly, sty, dpy, a1y, a2y, a3y, a4y, a5y, a6y, a7y, a8y, a9y, a10y, a11y, a12y, a13y) → wL_steps_327 post v (nI (4 + 4 * a + b)) (nI (20 + 16 * a + 4 * b)) 1 mdy pfy piy acy ccy aly sty dpy a1y a2y a3y a4y a5y a6y a7y a8y a9y a10y a11y a12y a13y) : wL_steps_146 post v (nI (4 + 4 * a + b)) (nI (20 + 16 * a + 4 * b)) 1 md pf pi ac cc al st dp a1 a2 a3 a4 a5 a6 a7 a8 a9 a10 a11 a12 a13 := by
  unfold tq_steps2 at hr
  refine br_f (by decide) ?_
  obtain ⟨_, f, hr⟩ := tq_peel hr
  refine tq_xWrite (s := 0) rfl rfl h f (fun _ => rfl) (fun u1 h => ?_)
  obtain ⟨md_1, pf_1, pi_1, ac_1, cc_1, al_1, st_1, dp_1, a1_1, a2_1, a3_1, a4_1, a5_1, a6_1, a7_1, a8_1, a9_1, a10_1, a11_1, a12_1, a13_1⟩ := u1
  refine br_t (by decide) ?_
  obtain ⟨_, f, hr⟩ := tq_peel hr
  refine tq_xRemove (s := 1) rfl (nI_add _ 1) h f (fun u1 h => ?_)
  obtain ⟨md_2, pf_2, pi_2, ac_2, cc_2, al_2, st_2, dp_2, a1_2, a2_2, a3_2, a4_2, a5_2, a6_2, a7_2, a8_2, a9_2, a10_2, a11_2, a12_2, a13_2⟩ := u1
  refine br_t (by decide) ?_
  obtain ⟨_, f, hr⟩ := tq_peel hr
  refine tq_xWrite (s := 0) rfl (nI_add _ 2) h f (fun _ => rfl) (fun u1 h => ?_)
  obtain ⟨md_3, pf_3, pi_3, ac_3, cc_3, al_3, st_3, dp_3, a1_3, a2_3, a3_3, a4_3, a5_3, a6_3, a7_3, a8_3, a9_3, a10_3, a11_3, a12_3, a13_3⟩ := u1
  refine br_t (by decide) ?_
  obtain ⟨_, f, hr⟩ := tq_peel hr
  refine tq_xWrite (s := 1) rfl (nI_add _ 2) h f (fun _ => rfl) (fun u1 h => ?_)
  obtain ⟨md_4, pf_4, pi_4, ac_4, cc_4, al_4, st_4, dp_4, a1_4, a2_4, a3_4, a4_4, a5_4, a6_4, a7_4, a8_4, a9_4, a10_4, a11_4, a12_4, a13_4⟩ := u1
  refine br_t (by decide) ?_
  obtain ⟨_, f, hr⟩ := tq_peel hr
  refine tq_xChanged (s := 0) rfl h f (fun u1 h => ?_)
  obtain ⟨md_5, pf_5, pi_5, ac_5, cc_5, al_5, st_5, dp_5, a1_5, a2_5, a3_5, a4_5, a5_5, a6_5, a7_5, a8_5, a9_5, a10_5, a11_5, a12_5, a13_5⟩ := u1
  refine br_t (by decide) ?_
  obtain ⟨_, f, hr⟩ := tq_peel hr
  refine tq_xChanged (s := 1) rfl h f (fun u1 h => ?_)
  obtain ⟨md_6, pf_6, pi_6, ac_6, cc_6, al_6, st_6, dp_6, a1_6, a2_6, a3_6, a4_6, a5_6, a6_6, a7_6, a8_6, a9_6, a10_6, a11_6, a12_6, a13_6⟩ := u1
  refine br_t (by decide) ?_
  obtain ⟨_, f, hr⟩ := tq_peel hr
  refine tq_wActions h f (fun u1 h => ?_)
  obtain ⟨md_7, pf_7, pi_7, ac_7, cc_7, al_7, st_7, dp_7, a1_7, a2_7, a3_7, a4_7, a5_7, a6_7, a7_7, a8_7, a9_7, a10_7, a11_7, a12_7, a13_7⟩ := u1
  refine br_t (by decide) ?_
  obtain ⟨_, f, hr⟩ := tq_peel hr
  refine tq_xAction (i := 0) (w := 0) rfl rfl h f (by omega) (by omega) (fun u1 h => ?_)
  obtain ⟨md_8, pf_8, pi_8, ac_8, cc_8, al_8, st_8, dp_8, a1_8, a2_8, a3_8, a4_8, a5_8, a6_8, a7_8, a8_8, a9_8, a10_8, a11_8, a12_8, a13_8⟩ := u1
  refine br_t (tq_iN _) ?_
  obtain ⟨_, f, hr⟩ := tq_peel hr
  refine tq_xAction (i := 0) (w := 1) rfl rfl h f (by omega) (by omega) (fun u1 h => ?_)
  obtain ⟨md_9, pf_9, pi_9, ac_9, cc_9, al_9, st_9, dp_9, a1_9, a2_9, a3_9, a4_9, a5_9, a6_9, a7_9, a8_9, a9_9, a10_9, a11_9, a12_9, a13_9⟩ := u1
  refine br_t (by decide) ?_
  obtain ⟨_, f, hr⟩ := tq_peel hr
  refine tq_xAction (i := 1) (w := 0) rfl rfl h f (by omega) (by omega) (fun u1 h => ?_)
  obtain ⟨md_10, pf_10, pi_10, ac_10, cc_10, al_10, st_10, dp_10, a1_10, a2_10, a3_10, a4_10, a5_10, a6_10, a7_10, a8_10, a9_10, a10_10, a11_10, a12_10, a13_10⟩ := u1
  refine br_t ((tq_iN _).trans (nI_add _ 1).symm) ?_
  obtain ⟨_, f, hr⟩ := tq_peel hr
  refine tq_xAction (i := 1) (w := 1) rfl rfl h f (by omega) (by omega) (fun u1 h => ?_)
  obtain ⟨md_11, pf_11, pi_11, ac_11, cc_11, al_11, st_11, dp_11, a1_11, a2_11, a3_11, a4_11, a5_11, a6_11, a7_11, a8_11, a9_11, a10_11, a11_11, a12_11, a13_11⟩ := u1
  refine br_t (by decide) ?_
  obtain ⟨_, f, hr⟩ := tq_peel hr
  refine tq_xAction (i := 2) (w := 0) rfl rfl h f (by omega) (by omega) (fun u1 h => ?_)
  obtain ⟨md_12, pf_12, pi_12, ac_12, cc_12, al_12, st_12, dp_12, a1_12, a2_12, a3_12, a4_12, a5_12, a6_12, a7_12, a8_12, a9_12, a10_12, a11_12, a12_12, a13_12⟩ := u1
  refine br_t (by decide) ?_
  obtain ⟨_, f, hr⟩ := tq_peel hr
  refine tq_wConflicts h f (fun u1 h => ?_)
  obtain ⟨md_13, pf_13, pi_13, ac_13, cc_13, al_13, st_13, dp_13, a1_13, a2_13, a3_13, a4_13, a5_13, a6_13, a7_13, a8_13, a9_13, a10_13, a11_13, a12_13, a13_13⟩ := u1
  refine br_t (by decide) ?_
  obtain ⟨_, f, hr⟩ := tq_peel hr
  refine tq_xConflict (i := 0) rfl h f (by omega) (fun u1 h => ?_)
  obtain ⟨md_14, pf_14, pi_14, ac_14, cc_14, al_14, st_14, dp_14, a1_14, a2_14, a3_14, a4_14, a5_14, a6_14, a7_14, a8_14, a9_14, a10_14, a11_14, a12_14, a13_14⟩ := u1
  refine br_t ((tq_iN _).trans (nI_add _ 2).symm) ?_
  obtain ⟨_, f, hr⟩ := tq_peel hr
  refine tq_xConflict (i := 1) rfl h f (by omega) (fun u1 h => ?_)
  obtain ⟨md_15, pf_15, pi_15, ac_15, cc_15, al_15, st_15, dp_15, a1_15, a2_15, a3_15, a4_15, a5_15, a6_15, a7_15, a8_15, a9_15, a10_15, a11_15, a12_15, a13_15⟩ := u1
  refine br_t (by decide) ?_
  have e := tq_nil hr
  rw [e] at h
  exact H _ _ _ _ _ _ _ _ _ _ _ _ _ _ _ _ _ _ _ _ _ h
theorem tq_lSteps1 {post : Int32 → St2 → Prop} {v : Int32} {m mE : tq_M} {a b : Nat} {md pf pi ac cc al st dp : Int32} {a1 a2 a3 a4 a5 a6 a7 a8 a9 a10 a11 a12 a13 : Nat → Int32} (ha : a < 4) (hb : b < 4) (h : tq_S v m (md, pf, pi, ac, cc, al, st, dp, a1, a2, a3, a4, a5, a6, a7, a8, a9, a10, a11, a12, a13)) (hr : tq_run (tq_steps1 a b) m = some mE)
    (H : ∀ mdy pfy piy acy ccy aly sty dpy a1y a2y a3y a4y a5y a6y a7y a8y a9y a10y a11y a12y a13y, tq_S v mE (mdy, pfy, piy, acy, ccy, aly, sty, dpy, a1y, a2y, a3y, a4y, a5y, a6y, a7y, a8y, a9y, a10y, a11y, a12y, a13y) → wL_steps_146 post v (nI (4 + 4 * a + b)) (nI (20 + 16 * a + 4 * b)) 1 mdy pfy piy acy ccy aly sty dpy a1y a2y a3y a4y a5y a6y a7y a8y a9y a10y a11y a12y a13y) : wpL_steps post (md, pf, pi, ac, cc, al, st, dp, a1, a2, a3, a4, a5, a6, a7, a8, a9, a10, a11, a12, a13) (nI a) (nI b) v := by
  unfold tq_steps1 at hr
  refine nm_r (tq_p1 a ha b hb) (nm_r (tq_p2 a ha b hb) ?_)
  obtain ⟨_, f, hr⟩ := tq_peel hr
  refine tq_wActions h f (fun u1 h => ?_)
  obtain ⟨md_1, pf_1, pi_1, ac_1, cc_1, al_1, st_1, dp_1, a1_1, a2_1, a3_1, a4_1, a5_1, a6_1, a7_1, a8_1, a9_1, a10_1, a11_1, a12_1, a13_1⟩ := u1
  refine br_t (by decide) ?_
  obtain ⟨_, f, hr⟩ := tq_peel hr
  refine tq_xAction (i := 0) (w := 0) rfl rfl h f (by omega) (by omega) (fun u1 h => ?_)
  obtain ⟨md_2, pf_2, pi_2, ac_2, cc_2, al_2, st_2, dp_2, a1_2, a2_2, a3_2, a4_2, a5_2, a6_2, a7_2, a8_2, a9_2, a10_2, a11_2, a12_2, a13_2⟩ := u1
  refine br_t (tq_iN _) ?_
  obtain ⟨_, f, hr⟩ := tq_peel hr
  refine tq_xAction (i := 0) (w := 1) rfl rfl h f (by omega) (by omega) (fun u1 h => ?_)
  obtain ⟨md_3, pf_3, pi_3, ac_3, cc_3, al_3, st_3, dp_3, a1_3, a2_3, a3_3, a4_3, a5_3, a6_3, a7_3, a8_3, a9_3, a10_3, a11_3, a12_3, a13_3⟩ := u1
  refine br_t (by decide) ?_
  obtain ⟨_, f, hr⟩ := tq_peel hr
  refine tq_wConflicts h f (fun u1 h => ?_)
  obtain ⟨md_4, pf_4, pi_4, ac_4, cc_4, al_4, st_4, dp_4, a1_4, a2_4, a3_4, a4_4, a5_4, a6_4, a7_4, a8_4, a9_4, a10_4, a11_4, a12_4, a13_4⟩ := u1
  refine br_t (by decide) ?_
  obtain ⟨_, f, hr⟩ := tq_peel hr
  refine tq_xChanged (s := 0) rfl h f (fun u1 h => ?_)
  obtain ⟨md_5, pf_5, pi_5, ac_5, cc_5, al_5, st_5, dp_5, a1_5, a2_5, a3_5, a4_5, a5_5, a6_5, a7_5, a8_5, a9_5, a10_5, a11_5, a12_5, a13_5⟩ := u1
  refine br_t (by decide) ?_
  obtain ⟨_, f, hr⟩ := tq_peel hr
  refine tq_xChanged (s := 1) rfl h f (fun u1 h => ?_)
  obtain ⟨md_6, pf_6, pi_6, ac_6, cc_6, al_6, st_6, dp_6, a1_6, a2_6, a3_6, a4_6, a5_6, a6_6, a7_6, a8_6, a9_6, a10_6, a11_6, a12_6, a13_6⟩ := u1
  refine br_t (by decide) ?_
  obtain ⟨_, f, hr⟩ := tq_peel hr
  refine tq_xStepSome (n := 0) rfl h f (by omega) (fun u1 h => ?_)
  obtain ⟨md_7, pf_7, pi_7, ac_7, cc_7, al_7, st_7, dp_7, a1_7, a2_7, a3_7, a4_7, a5_7, a6_7, a7_7, a8_7, a9_7, a10_7, a11_7, a12_7, a13_7⟩ := u1
  refine br_t (by decide) ?_
  obtain ⟨_, f, hr⟩ := tq_peel hr
  refine tq_xSize (s := 1) rfl h f (fun e => ?_)
  rw [e] at hr
  refine br_t (by decide) ?_
  obtain ⟨_, f, hr⟩ := tq_peel hr
  refine tq_wStep h f (fun u1 h => ?_)
  obtain ⟨md_8, pf_8, pi_8, ac_8, cc_8, al_8, st_8, dp_8, a1_8, a2_8, a3_8, a4_8, a5_8, a6_8, a7_8, a8_8, a9_8, a10_8, a11_8, a12_8, a13_8⟩ := u1
  refine br_t (by decide) ?_
  obtain ⟨_, f, hr⟩ := tq_peel hr
  refine tq_wSame h f (fun e => ?_)
  rw [e] at hr
  refine br_f (by decide) ?_
  obtain ⟨_, f, hr⟩ := tq_peel hr
  refine tq_xSize (s := 1) rfl h f (fun e => ?_)
  rw [e] at hr
  refine br_t (by decide) ?_
  obtain ⟨_, f, hr⟩ := tq_peel hr
  refine tq_xLast rfl h f (fun u1 h => ?_)
  obtain ⟨md_9, pf_9, pi_9, ac_9, cc_9, al_9, st_9, dp_9, a1_9, a2_9, a3_9, a4_9, a5_9, a6_9, a7_9, a8_9, a9_9, a10_9, a11_9, a12_9, a13_9⟩ := u1
  refine br_t (by decide) ?_
  obtain ⟨_, f, hr⟩ := tq_peel hr
  refine tq_xLast rfl h f (fun u1 h => ?_)
  obtain ⟨md_10, pf_10, pi_10, ac_10, cc_10, al_10, st_10, dp_10, a1_10, a2_10, a3_10, a4_10, a5_10, a6_10, a7_10, a8_10, a9_10, a10_10, a11_10, a12_10, a13_10⟩ := u1
  refine br_t (by decide) ?_
  obtain ⟨_, f, hr⟩ := tq_peel hr
  refine tq_wStep h f (fun u1 h => ?_)
  obtain ⟨md_11, pf_11, pi_11, ac_11, cc_11, al_11, st_11, dp_11, a1_11, a2_11, a3_11, a4_11, a5_11, a6_11, a7_11, a8_11, a9_11, a10_11, a11_11, a12_11, a13_11⟩ := u1
  refine br_t (by decide) ?_
  have e := tq_nil hr
  rw [e] at h
  exact H _ _ _ _ _ _ _ _ _ _ _ _ _ _ _ _ _ _ _ _ _ h
end
section
/-! the law: moves (printed by law.py) -/
theorem tq_lMoves3 {post : Int32 → St2 → Prop} {v : Int32} {m mE : tq_M} {a b : Nat} {md pf pi ac cc al st dp : Int32} {a1 a2 a3 a4 a5 a6 a7 a8 a9 a10 a11 a12 a13 : Nat → Int32} (ha : a < 4) (hb : b < 4) (h : tq_S v m (md, pf, pi, ac, cc, al, st, dp, a1, a2, a3, a4, a5, a6, a7, a8, a9, a10, a11, a12, a13)) (hr : tq_run (tq_moves3 a b) m = some mE)
    (H : ∀ u', tq_S v mE u' → post 1 u') : wL_moves_404 post v (nI (a ^^^ 1)) (nI (4 + 4 * a + b)) (nI (20 + 16 * a + 4 * b)) 1 md pf pi ac cc al st dp a1 a2 a3 a4 a5 a6 a7 a8 a9 a10 a11 a12 a13 := by
  unfold tq_moves3 at hr
  refine br_f (by decide) ?_
  obtain ⟨_, f, hr⟩ := tq_peel hr
  refine tq_wStep h f (fun u1 h => ?_)
  obtain ⟨md_1, pf_1, pi_1, ac_1, cc_1, al_1, st_1, dp_1, a1_1, a2_1, a3_1, a4_1, a5_1, a6_1, a7_1, a8_1, a9_1, a10_1, a11_1, a12_1, a13_1⟩ := u1
  refine br_t (by decide) ?_
  obtain ⟨_, f, hr⟩ := tq_peel hr
  refine tq_xChanged (s := 0) rfl h f (fun u1 h => ?_)
  obtain ⟨md_2, pf_2, pi_2, ac_2, cc_2, al_2, st_2, dp_2, a1_2, a2_2, a3_2, a4_2, a5_2, a6_2, a7_2, a8_2, a9_2, a10_2, a11_2, a12_2, a13_2⟩ := u1
  refine br_t (by decide) ?_
  obtain ⟨_, f, hr⟩ := tq_peel hr
  refine tq_xChanged (s := 1) rfl h f (fun u1 h => ?_)
  obtain ⟨md_3, pf_3, pi_3, ac_3, cc_3, al_3, st_3, dp_3, a1_3, a2_3, a3_3, a4_3, a5_3, a6_3, a7_3, a8_3, a9_3, a10_3, a11_3, a12_3, a13_3⟩ := u1
  refine br_t (by decide) ?_
  obtain ⟨_, f, hr⟩ := tq_peel hr
  refine tq_xMove (s := 0) rfl (nI_add _ 3) rfl h f (fun u1 h => ?_)
  obtain ⟨md_4, pf_4, pi_4, ac_4, cc_4, al_4, st_4, dp_4, a1_4, a2_4, a3_4, a4_4, a5_4, a6_4, a7_4, a8_4, a9_4, a10_4, a11_4, a12_4, a13_4⟩ := u1
  refine br_t (by decide) ?_
  obtain ⟨_, f, hr⟩ := tq_peel hr
  refine tq_xFolder (s := 1) rfl (tq_p9 a ha b hb) h f (fun u1 h => ?_)
  obtain ⟨md_5, pf_5, pi_5, ac_5, cc_5, al_5, st_5, dp_5, a1_5, a2_5, a3_5, a4_5, a5_5, a6_5, a7_5, a8_5, a9_5, a10_5, a11_5, a12_5, a13_5⟩ := u1
  refine br_t (by decide) ?_
  obtain ⟨_, f, hr⟩ := tq_peel hr
  refine tq_wStep h f (fun u1 h => ?_)
  obtain ⟨md_6, pf_6, pi_6, ac_6, cc_6, al_6, st_6, dp_6, a1_6, a2_6, a3_6, a4_6, a5_6, a6_6, a7_6, a8_6, a9_6, a10_6, a11_6, a12_6, a13_6⟩ := u1
  refine br_t (by decide) ?_
  obtain ⟨_, f, hr⟩ := tq_peel hr
  refine tq_wSame h f (fun e => ?_)
  rw [e] at hr
  refine br_f (by decide) ?_
  obtain ⟨_, f, hr⟩ := tq_peel hr
  refine tq_xNumber (s := 1) rfl rfl h f (fun u1 h => ?_)
  obtain ⟨md_7, pf_7, pi_7, ac_7, cc_7, al_7, st_7, dp_7, a1_7, a2_7, a3_7, a4_7, a5_7, a6_7, a7_7, a8_7, a9_7, a10_7, a11_7, a12_7, a13_7⟩ := u1
  refine br_t (tq_nA0 _) ?_
  obtain ⟨_, f, hr⟩ := tq_peel hr
  refine tq_xTwins (s := 1) rfl rfl h f (fun u1 h => ?_)
  obtain ⟨md_8, pf_8, pi_8, ac_8, cc_8, al_8, st_8, dp_8, a1_8, a2_8, a3_8, a4_8, a5_8, a6_8, a7_8, a8_8, a9_8, a10_8, a11_8, a12_8, a13_8⟩ := u1
  refine br_t (by decide) ?_
  have e := tq_nil hr
  rw [e] at h
  exact H _ h
theorem tq_lMoves2 {post : Int32 → St2 → Prop} {v : Int32} {m mE : tq_M} {a b : Nat} {md pf pi ac cc al st dp : Int32} {a1 a2 a3 a4 a5 a6 a7 a8 a9 a10 a11 a12 a13 : Nat → Int32} (ha : a < 4) (hb : b < 4) (h : tq_S v m (md, pf, pi, ac, cc, al, st, dp, a1, a2, a3, a4, a5, a6, a7, a8, a9, a10, a11, a12, a13)) (hr : tq_run (tq_moves2 a b) m = some mE)
    (H : ∀ mdy pfy piy acy ccy aly sty dpy a1y a2y a3y a4y a5y a6y a7y a8y a9y a10y a11y a12y a13y, tq_S v mE (mdy, pfy, piy, acy, ccy, aly, sty, dpy, a1y, a2y, a3y, a4y, a5y, a6y, a7y, a8y, a9y, a10y, a11y, a12y, a13y) → wL_moves_404 post v (nI (a ^^^ 1)) (nI (4 + 4 * a + b)) (nI (20 + 16 * a + 4 * b)) 1 mdy pfy piy acy ccy aly sty dpy a1y a2y a3y a4y a5y a6y a7y a8y a9y a10y a11y a12y a13y) : wL_moves_208 post (nI a) v (nI (a ^^^ 1)) (nI (4 + 4 * a + b)) (nI (20 + 16 * a + 4 * b)) 1 md pf pi ac cc al st dp a1 a2 a3 a4 a5 a6 a7 a8 a9 a10 a11 a12 a13 := by
  unfold tq_moves2 at hr
  refine br_f (by decide) ?_
  obtain ⟨_, f, hr⟩ := tq_peel hr
  refine tq_xCopy (s := 0) rfl (nI_add _ 3) rfl h f (fun u1 h => ?_)
  obtain ⟨md_1, pf_1, pi_1, ac_1, cc_1, al_1, st_1, dp_1, a1_1, a2_1, a3_1, a4_1, a5_1, a6_1, a7_1, a8_1, a9_1, a10_1, a11_1, a12_1, a13_1⟩ := u1
  refine br_t (by decide) ?_
  obtain ⟨_, f, hr⟩ := tq_peel hr
  refine tq_xNumber (s := 0) rfl rfl h f (fun u1 h => ?_)
  obtain ⟨md_2, pf_2, pi_2, ac_2, cc_2, al_2, st_2, dp_2, a1_2, a2_2, a3_2, a4_2, a5_2, a6_2, a7_2, a8_2, a9_2, a10_2, a11_2, a12_2, a13_2⟩ := u1
  refine br_t (tq_nA0 _) ?_
  obtain ⟨_, f, hr⟩ := tq_peel hr
  refine tq_xMove (s := 0) rfl rfl (tq_p5 a ha) h f (fun u1 h => ?_)
  obtain ⟨md_3, pf_3, pi_3, ac_3, cc_3, al_3, st_3, dp_3, a1_3, a2_3, a3_3, a4_3, a5_3, a6_3, a7_3, a8_3, a9_3, a10_3, a11_3, a12_3, a13_3⟩ := u1
  refine br_t (by decide) ?_
  obtain ⟨_, f, hr⟩ := tq_peel hr
  refine tq_xKind (s := 0) rfl rfl h f (fun u1 h => ?_)
  obtain ⟨md_4, pf_4, pi_4, ac_4, cc_4, al_4, st_4, dp_4, a1_4, a2_4, a3_4, a4_4, a5_4, a6_4, a7_4, a8_4, a9_4, a10_4, a11_4, a12_4, a13_4⟩ := u1
  refine br_t (by decide) ?_
  obtain ⟨_, f, hr⟩ := tq_peel hr
  refine tq_xKind (s := 0) rfl (tq_p10 a ha) h f (fun u1 h => ?_)
  obtain ⟨md_5, pf_5, pi_5, ac_5, cc_5, al_5, st_5, dp_5, a1_5, a2_5, a3_5, a4_5, a5_5, a6_5, a7_5, a8_5, a9_5, a10_5, a11_5, a12_5, a13_5⟩ := u1
  refine br_t (by decide) ?_
  obtain ⟨_, f, hr⟩ := tq_peel hr
  refine tq_xMove (s := 0) rfl rfl rfl h f (fun u1 h => ?_)
  obtain ⟨md_6, pf_6, pi_6, ac_6, cc_6, al_6, st_6, dp_6, a1_6, a2_6, a3_6, a4_6, a5_6, a6_6, a7_6, a8_6, a9_6, a10_6, a11_6, a12_6, a13_6⟩ := u1
  refine br_t (by decide) ?_
  obtain ⟨_, f, hr⟩ := tq_peel hr
  refine tq_xMove (s := 0) rfl rfl (tq_p6 a ha) h f (fun u1 h => ?_)
  obtain ⟨md_7, pf_7, pi_7, ac_7, cc_7, al_7, st_7, dp_7, a1_7, a2_7, a3_7, a4_7, a5_7, a6_7, a7_7, a8_7, a9_7, a10_7, a11_7, a12_7, a13_7⟩ := u1
  refine br_t (by decide) ?_
  obtain ⟨_, f, hr⟩ := tq_peel hr
  refine tq_xRemove (s := 0) rfl (tq_p5 a ha) h f (fun u1 h => ?_)
  obtain ⟨md_8, pf_8, pi_8, ac_8, cc_8, al_8, st_8, dp_8, a1_8, a2_8, a3_8, a4_8, a5_8, a6_8, a7_8, a8_8, a9_8, a10_8, a11_8, a12_8, a13_8⟩ := u1
  refine br_t (by decide) ?_
  obtain ⟨_, f, hr⟩ := tq_peel hr
  refine tq_xSize (s := 0) rfl h f (fun e => ?_)
  rw [e] at hr
  refine br_t (by decide) ?_
  obtain ⟨_, f, hr⟩ := tq_peel hr
  refine tq_xRestore (s := 0) (k := 1) rfl rfl h f (fun u1 h => ?_)
  obtain ⟨md_9, pf_9, pi_9, ac_9, cc_9, al_9, st_9, dp_9, a1_9, a2_9, a3_9, a4_9, a5_9, a6_9, a7_9, a8_9, a9_9, a10_9, a11_9, a12_9, a13_9⟩ := u1
  refine br_t (by decide) ?_
  obtain ⟨_, f, hr⟩ := tq_peel hr
  refine tq_xNumber (s := 0) rfl rfl h f (fun u1 h => ?_)
  obtain ⟨md_10, pf_10, pi_10, ac_10, cc_10, al_10, st_10, dp_10, a1_10, a2_10, a3_10, a4_10, a5_10, a6_10, a7_10, a8_10, a9_10, a10_10, a11_10, a12_10, a13_10⟩ := u1
  refine br_t (tq_nAn _) ?_
  obtain ⟨_, f, hr⟩ := tq_peel hr
  refine tq_xRestore (s := 1) (k := 0) rfl rfl h f (fun u1 h => ?_)
  obtain ⟨md_11, pf_11, pi_11, ac_11, cc_11, al_11, st_11, dp_11, a1_11, a2_11, a3_11, a4_11, a5_11, a6_11, a7_11, a8_11, a9_11, a10_11, a11_11, a12_11, a13_11⟩ := u1
  refine br_t (by decide) ?_
  obtain ⟨_, f, hr⟩ := tq_peel hr
  refine tq_xRestore (s := 1) (k := 1) rfl rfl h f (fun u1 h => ?_)
  obtain ⟨md_12, pf_12, pi_12, ac_12, cc_12, al_12, st_12, dp_12, a1_12, a2_12, a3_12, a4_12, a5_12, a6_12, a7_12, a8_12, a9_12, a10_12, a11_12, a12_12, a13_12⟩ := u1
  refine br_t (by decide) ?_
  obtain ⟨_, f, hr⟩ := tq_peel hr
  refine tq_wSame h f (fun e => ?_)
  rw [e] at hr
  refine br_f (by decide) ?_
  obtain ⟨_, f, hr⟩ := tq_peel hr
  refine tq_wActions h f (fun u1 h => ?_)
  obtain ⟨md_13, pf_13, pi_13, ac_13, cc_13, al_13, st_13, dp_13, a1_13, a2_13, a3_13, a4_13, a5_13, a6_13, a7_13, a8_13, a9_13, a10_13, a11_13, a12_13, a13_13⟩ := u1
  refine br_t (by decide) ?_
  obtain ⟨_, f, hr⟩ := tq_peel hr
  refine tq_xChanged (s := 0) rfl h f (fun u1 h => ?_)
  obtain ⟨md_14, pf_14, pi_14, ac_14, cc_14, al_14, st_14, dp_14, a1_14, a2_14, a3_14, a4_14, a5_14, a6_14, a7_14, a8_14, a9_14, a10_14, a11_14, a12_14, a13_14⟩ := u1
  refine br_t (by decide) ?_
  have e := tq_nil hr
  rw [e] at h
  exact H _ _ _ _ _ _ _ _ _ _ _ _ _ _ _ _ _ _ _ _ _ h
theorem tq_lMoves1 {post : Int32 → St2 → Prop} {v : Int32} {m mE : tq_M} {a b : Nat} {md pf pi ac cc al st dp : Int32} {a1 a2 a3 a4 a5 a6 a7 a8 a9 a10 a11 a12 a13 : Nat → Int32} (ha : a < 4) (hb : b < 4) (h : tq_S v m (md, pf, pi, ac, cc, al, st, dp, a1, a2, a3, a4, a5, a6, a7, a8, a9, a10, a11, a12, a13)) (hr : tq_run (tq_moves1 a b) m = some mE)
    (H : ∀ mdy pfy piy acy ccy aly sty dpy a1y a2y a3y a4y a5y a6y a7y a8y a9y a10y a11y a12y a13y, tq_S v mE (mdy, pfy, piy, acy, ccy, aly, sty, dpy, a1y, a2y, a3y, a4y, a5y, a6y, a7y, a8y, a9y, a10y, a11y, a12y, a13y) → wL_moves_208 post (nI a) v (nI (a ^^^ 1)) (nI (4 + 4 * a + b)) (nI (20 + 16 * a + 4 * b)) 1 mdy pfy piy acy ccy aly sty dpy a1y a2y a3y a4y a5y a6y a7y a8y a9y a10y a11y a12y a13y) : wpL_moves post (md, pf, pi, ac, cc, al, st, dp, a1, a2, a3, a4, a5, a6, a7, a8, a9, a10, a11, a12, a13) (nI a) (nI b) v := by
  unfold tq_moves1 at hr
  refine nm_r (tq_p4 a ha) (nm_r (tq_p1 a ha b hb) (nm_r (tq_p2 a ha b hb) ?_))
  obtain ⟨_, f, hr⟩ := tq_peel hr
  refine tq_xFolder (s := 0) rfl rfl h f (fun u1 h => ?_)
  obtain ⟨md_1, pf_1, pi_1, ac_1, cc_1, al_1, st_1, dp_1, a1_1, a2_1, a3_1, a4_1, a5_1, a6_1, a7_1, a8_1, a9_1, a10_1, a11_1, a12_1, a13_1⟩ := u1
  refine br_t (by decide) ?_
  obtain ⟨_, f, hr⟩ := tq_peel hr
  refine tq_xWrite (s := 0) rfl (nI_add _ 3) h f (fun _ => tq_v0 _) (fun u1 h => ?_)
  obtain ⟨md_2, pf_2, pi_2, ac_2, cc_2, al_2, st_2, dp_2, a1_2, a2_2, a3_2, a4_2, a5_2, a6_2, a7_2, a8_2, a9_2, a10_2, a11_2, a12_2, a13_2⟩ := u1
  refine br_t (by decide) ?_
  obtain ⟨_, f, hr⟩ := tq_peel hr
  refine tq_xKeep (s := 0) (k := 1) rfl rfl h f (fun u1 h => ?_)
  obtain ⟨md_3, pf_3, pi_3, ac_3, cc_3, al_3, st_3, dp_3, a1_3, a2_3, a3_3, a4_3, a5_3, a6_3, a7_3, a8_3, a9_3, a10_3, a11_3, a12_3, a13_3⟩ := u1
  refine br_t (by decide) ?_
  obtain ⟨_, f, hr⟩ := tq_peel hr
  refine tq_xFolder (s := 0) rfl rfl h f (fun u1 h => ?_)
  obtain ⟨md_4, pf_4, pi_4, ac_4, cc_4, al_4, st_4, dp_4, a1_4, a2_4, a3_4, a4_4, a5_4, a6_4, a7_4, a8_4, a9_4, a10_4, a11_4, a12_4, a13_4⟩ := u1
  refine br_t (by decide) ?_
  obtain ⟨_, f, hr⟩ := tq_peel hr
  refine tq_xMove (s := 0) rfl rfl rfl h f (fun u1 h => ?_)
  obtain ⟨md_5, pf_5, pi_5, ac_5, cc_5, al_5, st_5, dp_5, a1_5, a2_5, a3_5, a4_5, a5_5, a6_5, a7_5, a8_5, a9_5, a10_5, a11_5, a12_5, a13_5⟩ := u1
  refine br_t (by decide) ?_
  obtain ⟨_, f, hr⟩ := tq_peel hr
  refine tq_xMove (s := 0) rfl rfl (tq_p6 a ha) h f (fun u1 h => ?_)
  obtain ⟨md_6, pf_6, pi_6, ac_6, cc_6, al_6, st_6, dp_6, a1_6, a2_6, a3_6, a4_6, a5_6, a6_6, a7_6, a8_6, a9_6, a10_6, a11_6, a12_6, a13_6⟩ := u1
  refine br_t (by decide) ?_
  obtain ⟨_, f, hr⟩ := tq_peel hr
  refine tq_xCopy (s := 0) rfl rfl (tq_p7 a ha) h f (fun u1 h => ?_)
  obtain ⟨md_7, pf_7, pi_7, ac_7, cc_7, al_7, st_7, dp_7, a1_7, a2_7, a3_7, a4_7, a5_7, a6_7, a7_7, a8_7, a9_7, a10_7, a11_7, a12_7, a13_7⟩ := u1
  refine br_t (by decide) ?_
  obtain ⟨_, f, hr⟩ := tq_peel hr
  refine tq_xKind (s := 0) rfl (tq_p8 a ha) h f (fun u1 h => ?_)
  obtain ⟨md_8, pf_8, pi_8, ac_8, cc_8, al_8, st_8, dp_8, a1_8, a2_8, a3_8, a4_8, a5_8, a6_8, a7_8, a8_8, a9_8, a10_8, a11_8, a12_8, a13_8⟩ := u1
  refine br_t (by decide) ?_
  obtain ⟨_, f, hr⟩ := tq_peel hr
  refine tq_xTwins (s := 0) rfl rfl h f (fun u1 h => ?_)
  obtain ⟨md_9, pf_9, pi_9, ac_9, cc_9, al_9, st_9, dp_9, a1_9, a2_9, a3_9, a4_9, a5_9, a6_9, a7_9, a8_9, a9_9, a10_9, a11_9, a12_9, a13_9⟩ := u1
  refine br_t (by decide) ?_
  obtain ⟨_, f, hr⟩ := tq_peel hr
  refine tq_xSize (s := 0) rfl h f (fun e => ?_)
  rw [e] at hr
  refine br_t (by decide) ?_
  obtain ⟨_, f, hr⟩ := tq_peel hr
  refine tq_xTwins (s := 0) rfl (nI_add _ 3) h f (fun u1 h => ?_)
  obtain ⟨md_10, pf_10, pi_10, ac_10, cc_10, al_10, st_10, dp_10, a1_10, a2_10, a3_10, a4_10, a5_10, a6_10, a7_10, a8_10, a9_10, a10_10, a11_10, a12_10, a13_10⟩ := u1
  refine br_t (by decide) ?_
  obtain ⟨_, f, hr⟩ := tq_peel hr
  refine tq_xCopy (s := 0) rfl rfl (tq_p9 a ha b hb) h f (fun u1 h => ?_)
  obtain ⟨md_11, pf_11, pi_11, ac_11, cc_11, al_11, st_11, dp_11, a1_11, a2_11, a3_11, a4_11, a5_11, a6_11, a7_11, a8_11, a9_11, a10_11, a11_11, a12_11, a13_11⟩ := u1
  refine br_t (by decide) ?_
  obtain ⟨_, f, hr⟩ := tq_peel hr
  refine tq_xMove (s := 0) rfl rfl (nI_add _ 2) h f (fun u1 h => ?_)
  obtain ⟨md_12, pf_12, pi_12, ac_12, cc_12, al_12, st_12, dp_12, a1_12, a2_12, a3_12, a4_12, a5_12, a6_12, a7_12, a8_12, a9_12, a10_12, a11_12, a12_12, a13_12⟩ := u1
  refine br_t (by decide) ?_
  have e := tq_nil hr
  rw [e] at h
  exact H _ _ _ _ _ _ _ _ _ _ _ _ _ _ _ _ _ _ _ _ _ h
end
section
/-! the law -/
theorem tq_lTail {post : Int32 → St0 → Prop} {mc ms kc ks : Nat} {md pf pi ac cc al st dp : Int32} {a1 a2 a3 a4 a5 a6 a7 a8 a9 a10 a11 a12 a13 : Nat → Int32} (H : post 1 ()) : wL_lawOf_73 post mc ms (-1000000001) 1 kc ks md pf pi ac cc al st dp a1 a2 a3 a4 a5 a6 a7 a8 a9 a10 a11 a12 a13 := by
  refine br_f (by decide) ?_
  refine tq_bKind1 (br_t rfl ?_)
  refine tq_bKind2 (br_t rfl ?_)
  refine tq_bLast (br_t rfl ?_)
  refine tq_bSize (br_t rfl ?_)
  refine tq_bChanged (br_t rfl ?_)
  refine tq_bTwins (br_t rfl ?_)
  refine tq_bAction (br_t rfl ?_)
  refine tq_bPrefer (br_t rfl ?_)
  refine tq_bStep (br_t rfl ?_)
  refine tq_bKeep (br_t rfl ?_)
  refine tq_bRestore (br_t rfl ?_)
  exact tq_bCopy (br_t rfl H)
theorem tq_isE {o : Option tq_M} (h : tq_isS o = true) : ∃ m, o = some m := by
  cases o with
  | none => exact absurd h (by decide)
  | some m => exact ⟨m, rfl⟩
theorem tq_lawOf (x y : Int32) : wpL_lawOf (fun r _ => r = 1) 14 9598 () x y := by
  obtain ⟨a, ha, ea⟩ := pk_andE x (m := 3) 2 (by decide)
  obtain ⟨b, hb, eb⟩ := pk_andE (x >>> ((2 : Int32) &&& 31)) (m := 3) 2 (by decide)
  obtain ⟨mE, hE⟩ := tq_isE (tq_good a ha b hb)
  unfold tq_script at hE
  obtain ⟨m1, r1, hE⟩ := tq_peels hE
  obtain ⟨m2, r2, hE⟩ := tq_peels hE
  obtain ⟨m3, r3, hE⟩ := tq_peels hE
  obtain ⟨m4, r4, hE⟩ := tq_peels hE
  obtain ⟨m5, r5, hE⟩ := tq_peels hE
  obtain ⟨m6, r6, hE⟩ := tq_peels hE
  obtain ⟨m7, r7, hE⟩ := tq_peels hE
  obtain ⟨m8, r8, hE⟩ := tq_peels hE
  refine ⟨by decide, by decide, 13, 9577, by decide, by decide, tq_init (y >>> ((3 : Int32) &&& 31)) (fun u h => ?_)⟩
  obtain ⟨md, pf, pi, ac, cc, al, st, dp, a1, a2, a3, a4, a5, a6, a7, a8, a9, a10, a11, a12, a13⟩ := u
  refine nm_r ea (nm_r eb (nm_e ?_))
  refine tq_lFill ha hb h r1 (fun u1 h1 => ?_)
  obtain ⟨md_1, pf_1, pi_1, ac_1, cc_1, al_1, st_1, dp_1, a1_1, a2_1, a3_1, a4_1, a5_1, a6_1, a7_1, a8_1, a9_1, a10_1, a11_1, a12_1, a13_1⟩ := u1
  refine br_f (by decide) ?_
  refine tq_lSteps1 ha hb h1 r2 (fun _ _ _ _ _ _ _ _ _ _ _ _ _ _ _ _ _ _ _ _ _ h2 => ?_)
  refine tq_lSteps2 ha hb h2 r3 (fun _ _ _ _ _ _ _ _ _ _ _ _ _ _ _ _ _ _ _ _ _ h3 => ?_)
  refine tq_lSteps3 ha hb h3 r4 (fun _ _ _ _ _ _ _ _ _ _ _ _ _ _ _ _ _ _ _ _ _ h4 => ?_)
  refine tq_lSteps4 ha hb h4 r5 (fun u5 h5 => ?_)
  obtain ⟨md_5, pf_5, pi_5, ac_5, cc_5, al_5, st_5, dp_5, a1_5, a2_5, a3_5, a4_5, a5_5, a6_5, a7_5, a8_5, a9_5, a10_5, a11_5, a12_5, a13_5⟩ := u5
  refine br_f (by decide) ?_
  refine tq_lMoves1 ha hb h5 r6 (fun _ _ _ _ _ _ _ _ _ _ _ _ _ _ _ _ _ _ _ _ _ h6 => ?_)
  refine tq_lMoves2 ha hb h6 r7 (fun _ _ _ _ _ _ _ _ _ _ _ _ _ _ _ _ _ _ _ _ _ h7 => ?_)
  refine tq_lMoves3 ha hb h7 r8 (fun u8 h8 => ?_)
  obtain ⟨md_8, pf_8, pi_8, ac_8, cc_8, al_8, st_8, dp_8, a1_8, a2_8, a3_8, a4_8, a5_8, a6_8, a7_8, a8_8, a9_8, a10_8, a11_8, a12_8, a13_8⟩ := u8
  exact br_f (by decide) (tq_lTail rfl)
theorem tq_cell {post : Int32 → Prop} {L : Nat} {xs : Nat → Int32} (p : Nat) (hp : p < 2) (hL : L ≤ 2) (h : ∀ x, post x) : wpL_cellAt post L xs () (nI p) := pk_le L p (fun _ => h 0) (fun z => ⟨pk_in p L z, h _⟩)
theorem i_vc (xs : Nat → Int32) (L : Nat) (hL : L ≤ 2) : wpL_law (fun r => r = 1) L xs := by
  unfold wpL_law
  exact tq_cell 0 (by omega) hL (fun x => tq_cell 1 (by omega) hL (fun y => ⟨14, 9598, by omega, by omega, tq_lawOf x y⟩))
end
