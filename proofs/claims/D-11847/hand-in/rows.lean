section
/-! the pure picture: naturals and lists alone, written with recursors so that the kernel walks them quickly -/
/-- a number is worked out before it is used -/
noncomputable def nq_fN {α : Type} (n : Nat) (k : Nat → α) : α := Nat.rec (k 0) (fun m _ => k (Nat.succ m)) n
theorem nq_fN_eq {α : Type} (n : Nat) (k : Nat → α) : nq_fN n k = k n := by cases n <;> rfl
noncomputable def nq_fL {α : Type} (l : List Nat) : (List Nat → α) → α := List.rec (fun k => k []) (fun x _ ih k => nq_fN x (fun y => ih (fun ys => k (y :: ys)))) l
theorem nq_fL_eq {α : Type} (l : List Nat) (k : List Nat → α) : nq_fL l k = k l := by
  induction l generalizing k with
  | nil => rfl
  | cons x l ih =>
    show nq_fN x (fun y => nq_fL l (fun ys => k (y :: ys))) = k (x :: l)
    rw [nq_fN_eq, ih]
/-- the i-th of a list, 0 behind its end -/
noncomputable def nq_at (l : List Nat) : Nat → Nat := List.rec (fun _ => 0) (fun x _ ih i => Nat.rec x (fun j _ => ih j) i) l
theorem nq_at_0 (x : Nat) (l : List Nat) : nq_at (x :: l) 0 = x := rfl
theorem nq_at_s (x : Nat) (l : List Nat) (i : Nat) : nq_at (x :: l) (i + 1) = nq_at l i := rfl
/-- v added at place i -/
noncomputable def nq_ad (l : List Nat) : Nat → Nat → List Nat := List.rec (fun _ _ => []) (fun x xs ih i v => Nat.rec (Nat.mod (Nat.add x v) 4294967296 :: xs) (fun j _ => x :: ih j v) i) l
theorem nq_ad_0 (x : Nat) (l : List Nat) (v : Nat) : nq_ad (x :: l) 0 v = (x + v) % 4294967296 :: l := rfl
theorem nq_ad_s (x : Nat) (l : List Nat) (i v : Nat) : nq_ad (x :: l) (i + 1) v = x :: nq_ad l i v := rfl
theorem nq_ad_len (l : List Nat) : ∀ i v, (nq_ad l i v).length = l.length := by
  induction l with
  | nil => intro i v; rfl
  | cons x l ih =>
    intro i v
    cases i with
    | zero => rfl
    | succ i => rw [nq_ad_s, List.length_cons, ih, List.length_cons]
theorem nq_ad_at (l : List Nat) : ∀ i v j, i < l.length → nq_at (nq_ad l i v) j = if j = i then (nq_at l i + v) % 4294967296 else nq_at l j := by
  induction l with
  | nil => intro i v j h; exact absurd h (Nat.not_lt_zero _)
  | cons x l ih =>
    intro i v j h
    cases i with
    | zero =>
      cases j with
      | zero => rfl
      | succ j => rfl
    | succ i =>
      rw [nq_ad_s]
      cases j with
      | zero => rfl
      | succ j =>
        rw [nq_at_s, nq_at_s, nq_at_s, ih i v j (by simpa using h)]
        by_cases e : j = i
        · rw [if_pos e, if_pos (by omega)]
        · rw [if_neg e, if_neg (by omega)]
/-- mix -/
def nq_m2 (x : Nat) : Nat := Nat.xor (Nat.mod (Nat.mul x 1000003) 4294967296) (Nat.div x 8192)
noncomputable def nq_mx (a b : Nat) : Nat := nq_fN (Nat.mod (Nat.add (Nat.add (Nat.mul a 31) b) 17) 4294967296) nq_m2
theorem nq_mx_eq (a b : Nat) : nq_mx a b = nq_m2 ((a * 31 + b + 17) % 4294967296) := nq_fN_eq _ _
/-- what a device adds: type m % 3, gate m / 3 % 6, ends m / 18 % 6 and m / 108 -/
noncomputable def nq_s3 (X : List Nat) (t g x y vx vy aw : Nat) : List Nat :=
  nq_fN (nq_mx vy aw) (fun p => nq_fN (nq_mx vx aw) (fun q => cond (Nat.beq t 2) (nq_ad (nq_ad X x p) y q) (nq_fN (nq_mx (Nat.mod (Nat.add vx vy) 4294967296) (nq_mx (Nat.mod (Nat.mul vx vy) 4294967296) 99)) (fun r => nq_ad (nq_ad (nq_ad X x p) y q) g r))))
noncomputable def nq_s2 (M X : List Nat) (t g x y : Nat) : List Nat :=
  nq_fN (nq_at M x) (fun vx => nq_fN (nq_at M y) (fun vy => nq_fN (nq_mx (cond (Nat.beq t 2) 0 (nq_at M g)) t) (nq_s3 X t g x y vx vy)))
noncomputable def nq_sp (M X : List Nat) (m : Nat) : List Nat :=
  nq_fN (Nat.mod m 3) (fun t => nq_fN (Nat.mod (Nat.div m 3) 6) (fun g => nq_fN (Nat.mod (Nat.div m 18) 6) (fun x => nq_fN (Nat.div m 108) (nq_s2 M X t g x))))
noncomputable def nq_fo (M L : List Nat) : List Nat → List Nat := List.rec (fun X => X) (fun m _ ih X => ih (nq_sp M X m)) L
theorem nq_fo_c (M : List Nat) (m : Nat) (L X : List Nat) : nq_fo M (m :: L) X = nq_fo M L (nq_sp M X m) := rfl
noncomputable def nq_ma (b : Nat) (M : List Nat) : List Nat := List.rec [] (fun x _ ih => nq_mx x b :: ih) M
theorem nq_ma_c (b x : Nat) (l : List Nat) : nq_ma b (x :: l) = nq_mx x b :: nq_ma b l := rfl
theorem nq_ma_len (b : Nat) (l : List Nat) : (nq_ma b l).length = l.length := by
  induction l with
  | nil => rfl
  | cons x l ih => rw [nq_ma_c, List.length_cons, ih, List.length_cons]
theorem nq_ma_at (b : Nat) (l : List Nat) : ∀ i, i < l.length → nq_at (nq_ma b l) i = nq_mx (nq_at l i) b := by
  induction l with
  | nil => intro i h; exact absurd h (Nat.not_lt_zero _)
  | cons x l ih =>
    intro i h
    cases i with
    | zero => rfl
    | succ i => rw [nq_ma_c, nq_at_s, nq_at_s, ih i (by simpa using h)]
noncomputable def nq_ro (L : List Nat) (n : Nat) : List Nat → List Nat := Nat.rec (fun M => M) (fun _ ih M => nq_fL (nq_fo M L (nq_ma 1 M)) ih) n
theorem nq_ro_s (L : List Nat) (n : Nat) (M : List Nat) : nq_ro L (n + 1) M = nq_ro L n (nq_fo M L (nq_ma 1 M)) := nq_fL_eq _ _
noncomputable def nq_mk (N L : List Nat) : List Nat := nq_fL (nq_ma 5 N) (nq_ro L 6)
theorem nq_mk_eq (N L : List Nat) : nq_mk N L = nq_ro L 6 (nq_ma 5 N) := nq_fL_eq _ _
/-- how often m stands in L -/
noncomputable def nq_ct (L : List Nat) (m : Nat) : Nat := List.rec 0 (fun k _ ih => cond (Nat.beq k m) (Nat.succ ih) ih) L
theorem nq_ct_c (k : Nat) (L : List Nat) (m : Nat) : nq_ct (k :: L) m = cond (Nat.beq k m) (nq_ct L m + 1) (nq_ct L m) := rfl
/-- a device's number -/
def nq_cd (t g x y : Nat) : Nat := Nat.add (Nat.add t (Nat.mul 3 g)) (Nat.add (Nat.mul 18 x) (Nat.mul 108 y))
theorem nq_cd_eq (t g x y : Nat) : nq_cd t g x y = t + 3 * g + (18 * x + 108 * y) := rfl
def nq_cc (t g x y : Nat) : Nat := cond (Nat.ble y x) (nq_cd t (cond (Nat.beq t 2) 0 g) y x) (nq_cd t (cond (Nat.beq t 2) 0 g) x y)
/-- F at i, i + 1, .., r of them -/
noncomputable def nq_al (F : Nat → Bool) (r : Nat) : Nat → Bool := Nat.rec (fun _ => true) (fun _ ih i => cond (F i) (ih (Nat.succ i)) false) r
theorem nq_al_s (F : Nat → Bool) (r i : Nat) : nq_al F (r + 1) i = cond (F i) (nq_al F r (i + 1)) false := rfl
noncomputable def nq_eq (A B : List Nat) (m n : Nat) : Bool := Nat.beq (nq_ct A m) (nq_ct B n)
noncomputable def nq_a1 (A B : List Nat) (ch : Nat → Nat) (t x k : Nat) : Bool := nq_al (fun g => nq_eq A B (nq_cc t g x k) (nq_cc t (ch g) (ch x) (ch k))) (cond (Nat.beq t 2) 1 (Nat.succ k)) 0
noncomputable def nq_a2 (A B : List Nat) (ch : Nat → Nat) (t x k : Nat) : Bool := cond (Nat.beq t 2) true (nq_al (fun y => nq_eq A B (nq_cc t k x y) (nq_cc t (ch k) (ch x) (ch y))) k 0)
noncomputable def nq_aa (A B : List Nat) (ch : Nat → Nat) (t x k : Nat) : Bool := cond (nq_a1 A B ch t x k) (nq_a2 A B ch t x k) false
noncomputable def nq_ag (A B : List Nat) (ch : Nat → Nat) (k : Nat) : Bool := nq_al (fun t => nq_al (fun x => nq_aa A B ch t x k) (Nat.succ k) 0) 3 0
/-- the next net, 6 if there is none -/
noncomputable def nq_nn (ok : Nat → Bool) (r : Nat) : Nat → Nat := Nat.rec (fun _ => 6) (fun _ ih j => cond (ok j) j (ih (Nat.succ j))) r
theorem nq_nn_s (ok : Nat → Bool) (r j : Nat) : nq_nn ok (r + 1) j = cond (ok j) j (nq_nn ok r (j + 1)) := rfl
noncomputable def nq_ok (NA NB MA MB : List Nat) (pn pt : Nat) (lv us j : Nat) : Bool :=
  cond (Nat.beq (Nat.mod (Nat.div us (Nat.pow 2 j)) 2) 0) (cond (cond (Nat.beq lv pn) (Nat.beq j pt) true) (cond (Nat.beq (nq_at NA lv) (nq_at NB j)) (Nat.beq (nq_at MA lv) (nq_at MB j)) false) false) false
def nq_cl (us cur : Nat) : Nat := Nat.rec us (fun c _ => Nat.land us (Nat.xor 63 (Nat.pow 2 c))) cur
noncomputable def nq_pp (z : Option (List (List Nat))) (k : Nat → List Nat → Option (List (List Nat))) (st : List Nat) : Option (List (List Nat)) := List.rec z (fun v s _ => k v s) st
/-- the search: the nets taken below (the last first), the level, the net tried last at it (plus one), the nets in use, what is found (the last first) -/
noncomputable def nq_sr (ok : Nat → Nat → Nat → Bool) (ag : List Nat → Nat → Bool) (n : Nat) : List Nat → Nat → Nat → Nat → List (List Nat) → Option (List (List Nat)) :=
  Nat.rec (fun _ _ _ _ _ => none) (fun _ ih st lv cur us lf =>
    nq_fN (nq_cl us cur) (fun u1 => nq_fN (nq_nn (ok lv u1) (Nat.sub 6 cur) cur) (fun nx =>
      cond (Nat.beq nx 6) (nq_pp (some lf) (fun v s => ih s (Nat.pred lv) (Nat.succ v) u1 lf) st)
        (nq_fN (Nat.lor u1 (Nat.pow 2 nx)) (fun u2 => cond (ag (nx :: st) lv) (cond (Nat.beq lv 5) (ih st lv (Nat.succ nx) u2 ((nx :: st) :: lf)) (ih (nx :: st) (Nat.succ lv) 0 u2 lf)) (ih st lv (Nat.succ nx) u2 lf)))))) n
theorem nq_sr_s (ok : Nat → Nat → Nat → Bool) (ag : List Nat → Nat → Bool) (n : Nat) (st : List Nat) (lv cur us : Nat) (lf : List (List Nat)) : nq_sr ok ag (n + 1) st lv cur us lf =
    cond (Nat.beq (nq_nn (ok lv (nq_cl us cur)) (6 - cur) cur) 6) (nq_pp (some lf) (fun v s => nq_sr ok ag n s (lv - 1) (v + 1) (nq_cl us cur) lf) st)
      (cond (ag (nq_nn (ok lv (nq_cl us cur)) (6 - cur) cur :: st) lv) (cond (Nat.beq lv 5) (nq_sr ok ag n st lv (nq_nn (ok lv (nq_cl us cur)) (6 - cur) cur + 1) (Nat.lor (nq_cl us cur) (2 ^ nq_nn (ok lv (nq_cl us cur)) (6 - cur) cur)) ((nq_nn (ok lv (nq_cl us cur)) (6 - cur) cur :: st) :: lf))
        (nq_sr ok ag n (nq_nn (ok lv (nq_cl us cur)) (6 - cur) cur :: st) (lv + 1) 0 (Nat.lor (nq_cl us cur) (2 ^ nq_nn (ok lv (nq_cl us cur)) (6 - cur) cur)) lf)) (nq_sr ok ag n st lv (nq_nn (ok lv (nq_cl us cur)) (6 - cur) cur + 1) (Nat.lor (nq_cl us cur) (2 ^ nq_nn (ok lv (nq_cl us cur)) (6 - cur) cur)) lf)) := by
  have e : nq_sr ok ag (n + 1) st lv cur us lf = nq_fN (nq_cl us cur) (fun u1 => nq_fN (nq_nn (ok lv u1) (Nat.sub 6 cur) cur) (fun nx =>
      cond (Nat.beq nx 6) (nq_pp (some lf) (fun v s => nq_sr ok ag n s (Nat.pred lv) (Nat.succ v) u1 lf) st)
        (nq_fN (Nat.lor u1 (Nat.pow 2 nx)) (fun u2 => cond (ag (nx :: st) lv) (cond (Nat.beq lv 5) (nq_sr ok ag n st lv (Nat.succ nx) u2 ((nx :: st) :: lf)) (nq_sr ok ag n (nx :: st) (Nat.succ lv) 0 u2 lf)) (nq_sr ok ag n st lv (Nat.succ nx) u2 lf))))) := rfl
  rw [e, nq_fN_eq, nq_fN_eq, nq_fN_eq]
  rfl
/-- out of what is found: the nets that net i may be, and the first assignment -/
noncomputable def nq_po : List (List Nat) → Nat → Nat
  | [], _ => 0
  | l :: r, i => Nat.lor (nq_po r i) (2 ^ nq_at l (5 - i))
def nq_fi : List (List Nat) → List Nat
  | [] => []
  | l :: [] => l
  | _ :: m :: r => nq_fi (m :: r)
/-- all of a search -/
noncomputable def nq_rs (NA A NB B : List Nat) (pn pt : Nat) : Option (List (List Nat)) :=
  nq_fL (nq_mk NA A) (fun MA => nq_fL (nq_mk NB B) (fun MB => nq_sr (nq_ok NA NB MA MB pn pt) (fun l k => nq_ag A B (fun i => nq_at l (Nat.sub k i)) k) 64 [] 0 0 0 []))
/-- the devices that are there, from d on -/
noncomputable def nq_dl (p : Nat) (K : Nat → Nat) (r : Nat) : Nat → List Nat := Nat.rec (fun _ => []) (fun _ ih d => cond (Nat.beq (Nat.mod (Nat.div p (Nat.pow 2 d)) 2) 0) (ih (Nat.succ d)) (K d :: ih (Nat.succ d))) r
theorem nq_dl_s (p : Nat) (K : Nat → Nat) (r d : Nat) : nq_dl p K (r + 1) d = cond (Nat.beq (p / 2 ^ d % 2) 0) (nq_dl p K r (d + 1)) (K d :: nq_dl p K r (d + 1)) := rfl
end
section
/-! the circuits of the law: row r (bit k: device k is of type 0), turn d, broken device h -/
def nq_ty (r k : Nat) : Nat := cond (Nat.beq (Nat.mod (Nat.div r (Nat.pow 2 k)) 2) 0) 2 0
def nq_K0 (r k : Nat) : Nat := cond (Nat.ble 4 k) (nq_cc 2 1 1 0) (nq_cc (nq_ty r k) 5 k (k + 1))
def nq_K1 (r d h k : Nat) : Nat := nq_cc (cond (Nat.beq h k) 1 (nq_ty r k)) ((5 + d) % 6) ((k + 1 + d) % 6) ((k + d) % 6)
def nq_N : List Nat := [4294967295, 4294967295, 4294967295, 4294967295, 4294967295, 4294967295]
/-- all names none, but that of net j -/
def nq_Nj (j : Nat) : List Nat := [cond (Nat.beq j 0) 2 4294967295, cond (Nat.beq j 1) 2 4294967295, cond (Nat.beq j 2) 2 4294967295, cond (Nat.beq j 3) 2 4294967295, cond (Nat.beq j 4) 2 4294967295, cond (Nat.beq j 5) 2 4294967295]
def nq_ev (r : Nat) : Bool := Nat.beq r 0 || (Nat.beq r 15 || (Nat.beq r 6 || Nat.beq r 9))
/-- a search whose answer F takes -/
noncomputable def nq_is (NA A NB B : List Nat) (pn pt : Nat) (F : List (List Nat) → Bool) : Bool := nq_fL A (fun A => nq_fL B (fun B => Option.rec false F (nq_rs NA A NB B pn pt)))
noncomputable def nq_F1 (r d : Nat) (lf : List (List Nat)) : Bool :=
  Nat.beq lf.length (cond (nq_ev r) 2 1) && (Nat.beq (nq_po lf 2) (2 ^ ((2 + d) % 6)) && (Nat.beq (nq_po lf 0) (Nat.lor (2 ^ d) (cond (nq_ev r) (2 ^ ((4 + d) % 6)) 0)) &&
    (Nat.beq (nq_at (nq_fi lf) 5) (cond (Nat.blt d ((4 + d) % 6) || !nq_ev r) d ((4 + d) % 6)) && Nat.beq (nq_at (nq_fi lf) 0) ((5 + d) % 6))))
def nq_no (lf : List (List Nat)) : Bool := lf.isEmpty
def nq_be (b : Bool) (lf : List (List Nat)) : Bool := cond b (!lf.isEmpty) lf.isEmpty
def nq_si (r : Nat) (lf : List (List Nat)) : Bool := Nat.beq lf.length (cond (nq_ev r) 2 1)
noncomputable def nq_A (p r : Nat) : List Nat := nq_dl p (nq_K0 r) 7 0
noncomputable def nq_B (r d h : Nat) : List Nat := nq_dl 15 (nq_K1 r d h) 7 0
/-- the checks of circuit 0 alone -/
noncomputable def nq_c0 (r : Nat) : Bool :=
  nq_is nq_N (nq_A 15 r) nq_N (nq_A 15 r) 9 9 (nq_si r) && (nq_is nq_N (nq_A 15 r) nq_N (nq_A 15 r) 0 4 (nq_be (nq_ev r)) && (nq_is nq_N (nq_A 15 r) nq_N (nq_A 15 r) 2 2 (nq_be true) && nq_is nq_N (nq_A 15 r) nq_N (nq_A 15 r) 0 1 nq_no))
/-- the checks of a whole pair -/
noncomputable def nq_c1 (r d : Nat) : Bool := nq_is nq_N (nq_A 15 r) nq_N (nq_B r d 4) 9 9 (nq_F1 r d)
noncomputable def nq_cs (r d h : Nat) : Bool := nq_is nq_N (nq_B r d h) nq_N (nq_B r d h) 9 9 (nq_be true)
noncomputable def nq_c5 (r d i : Nat) : Bool := nq_is nq_N (nq_A (15 - 2 ^ i) r) nq_N (nq_B r d 4) 9 9 nq_no
noncomputable def nq_c6 (r d : Nat) : Bool := nq_is (nq_Nj 0) (nq_A 15 r) nq_N (nq_B r d 4) 9 9 nq_no
noncomputable def nq_c7 (r d : Nat) : Bool := nq_is (nq_Nj 0) (nq_A 15 r) (nq_Nj ((4 + d) % 6)) (nq_B r d 4) 9 9 (nq_be (nq_ev r))
noncomputable def nq_c8 (r d : Nat) : Bool := nq_is (nq_Nj 0) (nq_A 31 r) (nq_Nj ((4 + d) % 6)) (nq_B r d 4) 9 9 nq_no
/-- after a device more: which one may go -/
def nq_su (r i : Nat) : Bool := nq_ev r && (Nat.beq i 4 || (Nat.beq i 0 && Nat.beq (r % 2) 0))
noncomputable def nq_c9 (r d i : Nat) : Bool := nq_is (nq_Nj 0) (nq_A (31 - 2 ^ i) r) (nq_Nj ((4 + d) % 6)) (nq_B r d 4) 9 9 (nq_be (nq_su r i))
/-- the checks of a broken pair -/
noncomputable def nq_cb (r d h : Nat) : Bool := nq_is nq_N (nq_A 15 r) nq_N (nq_B r d h) 9 9 nq_no
theorem nq_t0 : ∀ r, r < 16 → nq_c0 r = true := by decide +kernel
theorem nq_t1 : ∀ r, r < 16 → ∀ d, d < 6 → nq_c1 r d = true := by decide +kernel
theorem nq_ts : ∀ r, r < 16 → ∀ d, d < 6 → ∀ h, h < 5 → nq_cs r d h = true := by decide +kernel
theorem nq_t5 : ∀ r, r < 16 → ∀ d, d < 6 → ∀ i, i < 4 → nq_c5 r d i = true := by decide +kernel
theorem nq_t6 : ∀ r, r < 16 → ∀ d, d < 6 → nq_c6 r d = true := by decide +kernel
theorem nq_t7 : ∀ r, r < 16 → ∀ d, d < 6 → nq_c7 r d = true := by decide +kernel
theorem nq_t8 : ∀ r, r < 16 → ∀ d, d < 6 → nq_c8 r d = true := by decide +kernel
theorem nq_t9 : ∀ r, r < 16 → ∀ d, d < 6 → ∀ i, i < 5 → nq_c9 r d i = true := by decide +kernel
theorem nq_tb : ∀ r, r < 16 → ∀ d, d < 6 → ∀ h, h < 4 → nq_cb r d h = true := by decide +kernel
end
section
/-! numbers -/
def nq_b (b : Bool) : Int32 := cond b 1 0
theorem nq_k1 : ¬ (1 : Int32) = 0 := by decide
theorem nq_bt {a b : Nat} (h : a = b) : Nat.beq a b = true := by
  subst h
  exact Nat.beq_refl a
theorem nq_bf {a b : Nat} (h : a ≠ b) : Nat.beq a b = false := by
  cases e : Nat.beq a b with
  | false => rfl
  | true => exact absurd (Nat.eq_of_beq_eq_true e) h
theorem nq_lt2 {a b : Nat} (h : a ≤ b) : Nat.ble a b = true := Nat.ble_eq ▸ h
theorem nq_lf2 {a b : Nat} (h : b < a) : Nat.ble a b = false := by
  cases e : Nat.ble a b with
  | false => rfl
  | true => exact absurd (Nat.le_of_ble_eq_true e) (by omega)
theorem nq_mod (n : Nat) : nI (n % 4294967296) = nI n := by
  apply Int32.toBitVec_inj.mp
  apply BitVec.eq_of_toNat_eq
  show n % 4294967296 % 2 ^ 32 = n % 2 ^ 32
  omega
theorem nq_inj {a b : Nat} (ha : a < 4294967296) (hb : b < 4294967296) : nI a = nI b ↔ a = b := by
  constructor
  · intro e
    have e2 : (nI a).toBitVec.toNat = (nI b).toBitVec.toNat := by rw [e]
    rw [pk_tn ha, pk_tn hb] at e2
    exact e2
  · intro e
    rw [e]
theorem nq_xor (a b : Nat) : nI a ^^^ nI b = nI (a ^^^ b) := by
  apply Int32.toBitVec_inj.1
  show BitVec.ofNat 32 a ^^^ BitVec.ofNat 32 b = BitVec.ofNat 32 (a ^^^ b)
  apply BitVec.eq_of_getLsbD_eq
  intro i hi
  simp [hi]
theorem nq_i6 (c i : Nat) : nI c * 6 + nI i = nI (c * 6 + i) := by
  rw [show (6 : Int32) = nI 6 from rfl, pk_mul, nI_add]
theorem nq_i7 (c i : Nat) : nI c * 7 + nI i = nI (c * 7 + i) := by
  rw [show (7 : Int32) = nI 7 from rfl, pk_mul, nI_add]
theorem nq_bit : ∀ p, p < 128 → ∀ d, d < 7 → ((nI p >>> (nI d &&& 31)) &&& 1) = nI (p / 2 ^ d % 2) := by decide +kernel
theorem nq_m22 (n : Nat) : n % 2 < 2 ^ 31 := Nat.lt_of_lt_of_le (Nat.mod_lt _ (by decide)) (by decide)
/-! small methods -/
theorem nq_cir {post : Int32 → Prop} {x : Int32} {c : Nat} (hc : c < 2) (hx : x = nI c) (h : post 1) : wpX_isCircuit post () x := by
  subst hx
  have e : c = 0 ∨ c = 1 := by omega
  rcases e with e | e
  · subst e
    exact br_t rfl h
  · subst e
    exact br_f (by decide) (br_t rfl h)
theorem nq_net {post : Int32 → Prop} {x : Int32} {i : Nat} (hi : i < 6) (hx : x = nI i) (h : post 1) : wpX_isNet post () x := by
  subst hx
  exact br_f (nI_pos (by omega)) (br_f (nI_ge (b := 6) hi (by decide)) h)
theorem nq_has {post : Int32 → Prop} {f1 f2 f3 f4 f5 : Int32} {a1 a2 a3 a4 a5 a6 a7 a8 a9 a10 a11 : Nat → Int32} {x y : Int32} {c d p : Nat} (hc : c < 2) (hd : d < 7) (hp : p < 128) (ha : a1 c = nI p) (ht : p / 2 ^ d % 2 ≠ 0 → post 1) (hf : p / 2 ^ d % 2 = 0 → post 0) (hx : x = nI c) (hy : y = nI d) : wpX_has post (f1, f2, f3, f4, f5, a1, a2, a3, a4, a5, a6, a7, a8, a9, a10, a11) x y := by
  subst hx hy
  unfold wpX_has
  refine nq_cir hc rfl (br_f nq_k1 (br_f (nI_pos (by omega)) (br_f (nI_ge (b := 7) hd (by decide)) ⟨vp_in_nI hc (by decide), ?_⟩)))
  exact pk_eq (p / 2 ^ d % 2) 0 hf ht (by rw [nI_clamp (by omega), ha, nq_bit p hp d hd]) rfl (nq_m22 _) (by decide)
/-- circuit c holds the devices K under the mask p -/
def nq_C (a1 a2 a3 a4 a5 : Nat → Int32) (c p : Nat) (K : Nat → Nat) : Prop :=
  p < 128 ∧ a1 c = nI p ∧ ∀ d, d < 7 → p / 2 ^ d % 2 ≠ 0 → K d < 648 ∧ (K d % 3 = 2 → K d / 3 % 6 = 0) ∧ a2 (c * 7 + d) = nI (K d % 3) ∧ a3 (c * 7 + d) = nI (K d / 3 % 6) ∧ a4 (c * 7 + d) = nI (K d / 18 % 6) ∧ a5 (c * 7 + d) = nI (K d / 108)
theorem nq_cd103 {post : Int32 → Prop} {J : Int32 → Int32 → Prop} {f1 f2 f3 f4 f5 : Int32} {a1 a2 a3 a4 a5 a6 a7 a8 a9 a10 a11 : Nat → Int32} {x1 x2 x3 x6 x7 x10 : Int32} {acc d : Nat} (h : J (nI acc) (nI (d + 1))) : wX_countDevices_103 post J x1 x2 x3 x6 x7 (nI acc) (nI d) x10 f1 f2 f3 f4 f5 a1 a2 a3 a4 a5 a6 a7 a8 a9 a10 a11 := by
  unfold wX_countDevices_103 wX_countDevices_104
  exact br_t rfl (nm_r (Int32.add_zero _) (nm_r (nI_1 d) h))
theorem nq_cd104 {post : Int32 → Prop} {J : Int32 → Int32 → Prop} {f1 f2 f3 f4 f5 : Int32} {a1 a2 a3 a4 a5 a6 a7 a8 a9 a10 a11 : Nat → Int32} {x1 x6 x7 : Int32} {t g acc d q v : Nat} (ht : t < 3) (hg : g < 6) (hv : v < 6) (hq : q < 14) (ha : a3 q = nI v) (hT : (t = 2 ∨ v = g) → J (nI (acc + 1)) (nI (d + 1))) (hF : t ≠ 2 → v ≠ g → J (nI acc) (nI (d + 1))) : wX_countDevices_104 post J x1 (nI t) (nI g) x6 x7 (nI acc) (nI d) (nI q) 1 f1 f2 f3 f4 f5 a1 a2 a3 a4 a5 a6 a7 a8 a9 a10 a11 := by
  unfold wX_countDevices_104
  exact br_f nq_k1 (pk_eq t 2 (fun h => nm_r (nI_1 acc) (nm_r (nI_1 d) (hT (Or.inl h)))) (fun h => ⟨pk_in q 14 hq, pk_eq v g (fun e => nm_r (nI_1 acc) (nm_r (nI_1 d) (hT (Or.inr e)))) (fun e => nm_r (Int32.add_zero _) (nm_r (nI_1 d) (hF h e))) (by rw [nI_clamp (by omega)]; exact ha)⟩))
theorem nq_cdI {k t g lo hi : Nat} (ht : t < 3) (hg : g < 6) (hl : lo < 6) : k = nq_cd t g lo hi ↔ k % 3 = t ∧ k / 3 % 6 = g ∧ k / 18 % 6 = lo ∧ k / 108 = hi := by
  rw [nq_cd_eq]
  omega
theorem nq_cd38 {post : Int32 → Prop} {f1 f2 f3 f4 f5 : Int32} {a1 a2 a3 a4 a5 a6 a7 a8 a9 a10 a11 : Nat → Int32} {c p t g lo hi : Nat} {K : Nat → Nat} (hc : c < 2) (hC : nq_C a1 a2 a3 a4 a5 c p K) (ht : t < 3) (hg : g < 6) (hl : lo < 6) (hh : hi < 6) : ∀ r d acc, d + r = 7 → acc ≤ d → post (nI (acc + nq_ct (nq_dl p K r d) (nq_cd t (cond (Nat.beq t 2) 0 g) lo hi))) → wX_countDevices_38 post (nI c) (nI t) (nI g) (nI lo) (nI hi) f1 f2 f3 f4 f5 a1 a2 a3 a4 a5 a6 a7 a8 a9 a10 a11 (r + 1) (nI acc) (nI d) := by
  obtain ⟨hp, h1, hK⟩ := hC
  intro r
  induction r with
  | zero =>
    intro d acc hd _ h
    rw [show nq_ct (nq_dl p K 0 d) (nq_cd t (cond (Nat.beq t 2) 0 g) lo hi) = 0 from rfl, Nat.add_zero] at h
    exact br_t (nI_le (a := 7) (by omega) (by omega)) h
  | succ r ih =>
    intro d acc hd ha h
    have hd7 : d < 7 := by omega
    rw [nq_dl_s] at h
    refine br_f (nI_ge (b := 7) hd7 (by omega)) (nm_r (nq_i7 c d) (nq_has hc hd7 hp h1 (fun hb => ?_) (fun hb => ?_) rfl rfl))
    · obtain ⟨k1, k2, e2, e3, e4, e5⟩ := hK d hd7 hb
      have hq : c * 7 + d < 14 := by omega
      have cl : (nI (c * 7 + d)).toNatClampNeg = c * 7 + d := nI_clamp (by omega)
      rw [nq_bf hb, cond_false, nq_ct_c] at h
      have hF : K d ≠ nq_cd t (cond (Nat.beq t 2) 0 g) lo hi → wX_countDevices_38 post (nI c) (nI t) (nI g) (nI lo) (nI hi) f1 f2 f3 f4 f5 a1 a2 a3 a4 a5 a6 a7 a8 a9 a10 a11 (r + 1) (nI acc) (nI (d + 1)) := fun e => ih (d + 1) acc (by omega) (by omega) (by rw [nq_bf e, cond_false] at h; exact h)
      have hT : K d = nq_cd t (cond (Nat.beq t 2) 0 g) lo hi → wX_countDevices_38 post (nI c) (nI t) (nI g) (nI lo) (nI hi) f1 f2 f3 f4 f5 a1 a2 a3 a4 a5 a6 a7 a8 a9 a10 a11 (r + 1) (nI (acc + 1)) (nI (d + 1)) := fun e => ih (d + 1) (acc + 1) (by omega) (by omega) (by
        rw [nq_bt e, cond_true] at h
        rw [show acc + 1 + nq_ct (nq_dl p K r (d + 1)) (nq_cd t (cond (Nat.beq t 2) 0 g) lo hi) = acc + (nq_ct (nq_dl p K r (d + 1)) (nq_cd t (cond (Nat.beq t 2) 0 g) lo hi) + 1) by omega]
        exact h)
      have hg2 : (cond (Nat.beq t 2) 0 g) < 6 := by
        cases Nat.beq t 2 with
        | true => exact (by decide : 0 < 6)
        | false => exact hg
      rw [nq_cdI ht hg2 hl] at hT
      rw [ne_eq, nq_cdI ht hg2 hl] at hF
      have h108 : K d / 108 < 6 := by omega
      refine br_f nq_k1 ⟨pk_in _ 14 hq, pk_eq (K d % 3) t (fun q1 => ⟨pk_in _ 14 hq, pk_eq (K d / 18 % 6) lo (fun q2 => ⟨pk_in _ 14 hq, pk_eq (K d / 108) hi (fun q3 => ?_) (fun q3 => nq_cd103 (hF (fun z => q3 z.2.2.2))) (by rw [cl]; exact e5)⟩) (fun q2 => nq_cd103 (hF (fun z => q2 z.2.2.1))) (by rw [cl]; exact e4)⟩) (fun q1 => nq_cd103 (hF (fun z => q1 z.1))) (by rw [cl]; exact e2)⟩
      refine nq_cd104 ht hg (Nat.mod_lt _ (by decide)) hq e3 (fun z => hT ⟨q1, ?_, q2, q3⟩) (fun z1 z2 => hF (fun z => ?_))
      · rcases z with z | z
        · rw [nq_bt z, cond_true]
          exact k2 (by omega)
        · by_cases z2 : t = 2
          · rw [nq_bt z2, cond_true]
            exact k2 (by omega)
          · rw [nq_bf z2, cond_false]
            exact z
      · have zz := z.2.1
        rw [nq_bf z1, cond_false] at zz
        exact z2 zz
    · rw [nq_bt hb, cond_true] at h
      exact br_t rfl (nq_cd103 (ih (d + 1) acc (by omega) (by omega) h))
theorem nq_cnt {post : Int32 → Prop} {f1 f2 f3 f4 f5 : Int32} {a1 a2 a3 a4 a5 a6 a7 a8 a9 a10 a11 : Nat → Int32} {x0 x1 x2 x3 x4 : Int32} {c p t g x y : Nat} {K : Nat → Nat} (hc : c < 2) (hC : nq_C a1 a2 a3 a4 a5 c p K) (ht : t < 3) (hg : g < 6) (hx : x < 6) (hy : y < 6) (e0 : x0 = nI c) (e1 : x1 = nI t) (e2 : x2 = nI g) (e3 : x3 = nI x) (e4 : x4 = nI y)
    (h : post (nI (nq_ct (nq_dl p K 7 0) (nq_cc t g x y)))) : wpX_countDevices post (f1, f2, f3, f4, f5, a1, a2, a3, a4, a5, a6, a7, a8, a9, a10, a11) x0 x1 x2 x3 x4 := by
  subst e0 e1 e2 e3 e4
  unfold wpX_countDevices
  have h0 : ∀ lo hi, lo < 6 → hi < 6 → nq_cc t g x y = nq_cd t (cond (Nat.beq t 2) 0 g) lo hi → ∃ fu : Nat, wX_countDevices_38 post (nI c) (nI t) (nI g) (nI lo) (nI hi) f1 f2 f3 f4 f5 a1 a2 a3 a4 a5 a6 a7 a8 a9 a10 a11 fu 0 0 := fun lo hi hl hh e => by
    rw [e] at h
    exact ⟨8, nq_cd38 hc hC ht hg hl hh 7 0 0 rfl (Nat.le_refl 0) (by rw [Nat.zero_add]; exact h)⟩
  refine pk_le y x (fun z => ?_) (fun z => ?_)
  · unfold wX_countDevices_14
    exact br_t (nI_le z (by omega)) (h0 y x hy hx (by unfold nq_cc; rw [nq_lt2 z, cond_true]))
  · unfold wX_countDevices_14
    exact br_f (nI_ge z (by omega)) (h0 x y hx hy (by unfold nq_cc; rw [nq_lf2 z, cond_false]))
/-! agrees -/
theorem nq_ctle (L : List Nat) (m : Nat) : nq_ct L m ≤ L.length := by
  induction L with
  | nil => exact Nat.le_refl 0
  | cons k L ih =>
    rw [nq_ct_c, List.length_cons]
    cases Nat.beq k m with
    | true => exact Nat.succ_le_succ ih
    | false => exact Nat.le_succ_of_le ih
theorem nq_dlle (p : Nat) (K : Nat → Nat) : ∀ r d, (nq_dl p K r d).length ≤ r := by
  intro r
  induction r with
  | zero => intro d; exact Nat.le_refl 0
  | succ r ih =>
    intro d
    rw [nq_dl_s]
    cases Nat.beq (p / 2 ^ d % 2) 0 with
    | true => exact Nat.le_succ_of_le (ih (d + 1))
    | false => exact Nat.succ_le_succ (ih (d + 1))
theorem nq_ct7 (p : Nat) (K : Nat → Nat) (m : Nat) : nq_ct (nq_dl p K 7 0) m < 2 ^ 31 := Nat.lt_of_le_of_lt (Nat.le_trans (nq_ctle _ m) (nq_dlle p K 7 0)) (by decide)
/-- two counts in a row, compared -/
theorem nq_two {post : Int32 → Prop} {A B : Prop} {pa pb : Nat} {KA KB : Nat → Nat} {m n : Nat} (hT : nq_eq (nq_dl pa KA 7 0) (nq_dl pb KB 7 0) m n = true → A) (hF : nq_eq (nq_dl pa KA 7 0) (nq_dl pb KB 7 0) m n = false → B) : (nI (nq_ct (nq_dl pa KA 7 0) m) = nI (nq_ct (nq_dl pb KB 7 0) n) → A) ∧ (¬ nI (nq_ct (nq_dl pa KA 7 0) m) = nI (nq_ct (nq_dl pb KB 7 0) n) → B) :=
  pk_eq _ _ (fun z => hT (nq_bt z)) (fun z => hF (nq_bf z)) rfl rfl (nq_ct7 _ _ _) (nq_ct7 _ _ _)
theorem nq_ag81 {post : Int32 → Prop} {f1 f2 f3 f4 f5 : Int32} {a1 a2 a3 a4 a5 a6 a7 a8 a9 a10 a11 : Nat → Int32} {a b pa pb t x k : Nat} {KA KB ch : Nat → Nat} (ha : a < 2) (hb : b < 2) (hA : nq_C a1 a2 a3 a4 a5 a pa KA) (hB : nq_C a1 a2 a3 a4 a5 b pb KB) (ht : t < 3) (hx : x ≤ k) (hk : k < 6) (hch : ∀ i, i ≤ k → a9 i = nI (ch i) ∧ ch i < 6) (e1 : f1 = nI a) (e2 : f2 = nI b) (ht2 : t ≠ 2) :
    ∀ r y, y + r = k → post (nq_b (nq_al (fun y => nq_eq (nq_dl pa KA 7 0) (nq_dl pb KB 7 0) (nq_cc t k x y) (nq_cc t (ch k) (ch x) (ch y))) r y)) → wX_agreesAt_81 post (nI t) (nI x) (nI k) f1 f2 f3 f4 f5 a1 a2 a3 a4 a5 a6 a7 a8 a9 a10 a11 (r + 1) (nI y) := by
  intro r
  induction r with
  | zero =>
    intro y hy h
    exact br_t (nI_le (by omega) (by omega)) h
  | succ r ih =>
    intro y hy h
    rw [nq_al_s] at h
    refine br_f (nI_ge (by omega) (by omega)) (pk_eq t 2 (fun z => absurd z ht2) (fun _ => ?_))
    refine nq_cnt ha hA ht (by omega) (by omega) (by omega) e1 rfl rfl rfl rfl ⟨pk_in k 8 (by omega), pk_in x 8 (by omega), pk_in y 8 (by omega), ?_⟩
    rw [nI_clamp (show k < 2 ^ 31 by omega), nI_clamp (show x < 2 ^ 31 by omega), nI_clamp (show y < 2 ^ 31 by omega)]
    refine nq_cnt hb hB ht (hch k (by omega)).2 (hch x (by omega)).2 (hch y (by omega)).2 e2 rfl (hch k (by omega)).1 (hch x (by omega)).1 (hch y (by omega)).1 ?_
    refine nq_two (post := post) (fun z => nm_r (nI_1 y) (ih (y + 1) (by omega) ?_)) (fun z => ?_)
    · rw [z, cond_true] at h
      exact h
    · rw [z, cond_false] at h
      exact h
theorem nq_ag15 {post : Int32 → Prop} {f1 f2 f3 f4 f5 : Int32} {a1 a2 a3 a4 a5 a6 a7 a8 a9 a10 a11 : Nat → Int32} {a b pa pb t x k u : Nat} {KA KB ch : Nat → Nat} (ha : a < 2) (hb : b < 2) (hA : nq_C a1 a2 a3 a4 a5 a pa KA) (hB : nq_C a1 a2 a3 a4 a5 b pb KB) (ht : t < 3) (hx : x ≤ k) (hk : k < 6) (hu : u ≤ k) (hch : ∀ i, i ≤ k → a9 i = nI (ch i) ∧ ch i < 6) (e1 : f1 = nI a) (e2 : f2 = nI b) :
    ∀ r g, g + r = u + 1 → (nq_al (fun g => nq_eq (nq_dl pa KA 7 0) (nq_dl pb KB 7 0) (nq_cc t g x k) (nq_cc t (ch g) (ch x) (ch k))) r g = true → ∃ fu : Nat, wX_agreesAt_81 post (nI t) (nI x) (nI k) f1 f2 f3 f4 f5 a1 a2 a3 a4 a5 a6 a7 a8 a9 a10 a11 fu 0) → (nq_al (fun g => nq_eq (nq_dl pa KA 7 0) (nq_dl pb KB 7 0) (nq_cc t g x k) (nq_cc t (ch g) (ch x) (ch k))) r g = false → post 0) → wX_agreesAt_15 post (nI t) (nI x) (nI k) (nI u) f1 f2 f3 f4 f5 a1 a2 a3 a4 a5 a6 a7 a8 a9 a10 a11 (r + 1) (nI g) := by
  intro r
  induction r with
  | zero =>
    intro g hg h h'
    exact br_t (nI_lt (by omega) (by omega)) (h rfl)
  | succ r ih =>
    intro g hg h h'
    rw [nq_al_s] at h h'
    refine br_f (nI_nlt (by omega) (by omega)) ?_
    refine nq_cnt ha hA ht (by omega) (by omega) (by omega) e1 rfl rfl rfl rfl ⟨pk_in g 8 (by omega), pk_in x 8 (by omega), pk_in k 8 (by omega), ?_⟩
    rw [nI_clamp (show k < 2 ^ 31 by omega), nI_clamp (show x < 2 ^ 31 by omega), nI_clamp (show g < 2 ^ 31 by omega)]
    refine nq_cnt hb hB ht (hch g (by omega)).2 (hch x (by omega)).2 (hch k (by omega)).2 e2 rfl (hch g (by omega)).1 (hch x (by omega)).1 (hch k (by omega)).1 ?_
    refine nq_two (post := post) (fun z => nm_r (nI_1 g) (ih (g + 1) (by omega) (fun w => h ?_) (fun w => h' ?_))) (fun z => h' ?_)
    · rw [z, cond_true]
      exact w
    · rw [z, cond_true]
      exact w
    · rw [z, cond_false]
theorem nq_agAt {post : Int32 → Prop} {f1 f2 f3 f4 f5 : Int32} {a1 a2 a3 a4 a5 a6 a7 a8 a9 a10 a11 : Nat → Int32} {a b pa pb t x k : Nat} {KA KB ch : Nat → Nat} (ha : a < 2) (hb : b < 2) (hA : nq_C a1 a2 a3 a4 a5 a pa KA) (hB : nq_C a1 a2 a3 a4 a5 b pb KB) (ht : t < 3) (hx : x ≤ k) (hk : k < 6) (hch : ∀ i, i ≤ k → a9 i = nI (ch i) ∧ ch i < 6) (e1 : f1 = nI a) (e2 : f2 = nI b)
    (h : post (nq_b (nq_aa (nq_dl pa KA 7 0) (nq_dl pb KB 7 0) ch t x k))) : wpX_agreesAt post (f1, f2, f3, f4, f5, a1, a2, a3, a4, a5, a6, a7, a8, a9, a10, a11) (nI t) (nI x) (nI k) := by
  unfold wpX_agreesAt
  unfold nq_aa at h
  refine pk_eq t 2 (fun z => ?_) (fun z => ?_)
  · have e : nq_a1 (nq_dl pa KA 7 0) (nq_dl pb KB 7 0) ch t x k = nq_al (fun g => nq_eq (nq_dl pa KA 7 0) (nq_dl pb KB 7 0) (nq_cc t g x k) (nq_cc t (ch g) (ch x) (ch k))) 1 0 := by
      unfold nq_a1
      rw [nq_bt z, cond_true]
    have e3 : nq_a2 (nq_dl pa KA 7 0) (nq_dl pb KB 7 0) ch t x k = true := by
      unfold nq_a2
      rw [nq_bt z, cond_true]
    rw [e, e3] at h
    refine ⟨2, nq_ag15 (u := 0) ha hb hA hB ht hx hk (by omega) hch e1 e2 1 0 rfl (fun w => ⟨1, ?_⟩) (fun w => ?_)⟩
    · rw [w, cond_true] at h
      refine br_c (fun _ => h) (fun _ => br_t ?_ h)
      rw [z]
      rfl
    · rw [w, cond_false] at h
      exact h
  · have e : nq_a1 (nq_dl pa KA 7 0) (nq_dl pb KB 7 0) ch t x k = nq_al (fun g => nq_eq (nq_dl pa KA 7 0) (nq_dl pb KB 7 0) (nq_cc t g x k) (nq_cc t (ch g) (ch x) (ch k))) (k + 1) 0 := by
      unfold nq_a1
      rw [nq_bf z, cond_false]
    have e3 : nq_a2 (nq_dl pa KA 7 0) (nq_dl pb KB 7 0) ch t x k = nq_al (fun y => nq_eq (nq_dl pa KA 7 0) (nq_dl pb KB 7 0) (nq_cc t k x y) (nq_cc t (ch k) (ch x) (ch y))) k 0 := by
      unfold nq_a2
      rw [nq_bf z, cond_false]
    rw [e, e3] at h
    refine ⟨k + 2, nq_ag15 (u := k) ha hb hA hB ht hx hk (by omega) hch e1 e2 (k + 1) 0 (by omega) (fun w => ⟨k + 1, ?_⟩) (fun w => ?_)⟩
    · rw [w, cond_true] at h
      exact nq_ag81 ha hb hA hB ht hx hk hch e1 e2 z k 0 (by omega) h
    · rw [w, cond_false] at h
      exact h
theorem nq_ag9 {post : Int32 → Prop} {J : Int32 → Prop} {f1 f2 f3 f4 f5 : Int32} {a1 a2 a3 a4 a5 a6 a7 a8 a9 a10 a11 : Nat → Int32} {a b pa pb t k : Nat} {KA KB ch : Nat → Nat} (ha : a < 2) (hb : b < 2) (hA : nq_C a1 a2 a3 a4 a5 a pa KA) (hB : nq_C a1 a2 a3 a4 a5 b pb KB) (ht : t < 3) (hk : k < 6) (hch : ∀ i, i ≤ k → a9 i = nI (ch i) ∧ ch i < 6) (e1 : f1 = nI a) (e2 : f2 = nI b) :
    ∀ r x, x + r = k + 1 → (nq_al (fun x => nq_aa (nq_dl pa KA 7 0) (nq_dl pb KB 7 0) ch t x k) r x = true → J (nI (t + 1))) → (nq_al (fun x => nq_aa (nq_dl pa KA 7 0) (nq_dl pb KB 7 0) ch t x k) r x = false → post 0) → wX_agrees_9 post J (nI k) (nI t) f1 f2 f3 f4 f5 a1 a2 a3 a4 a5 a6 a7 a8 a9 a10 a11 (r + 1) (nI x) := by
  intro r
  induction r with
  | zero =>
    intro x hx h h'
    exact br_t (nI_lt (by omega) (by omega)) (nm_r (nI_1 t) (h rfl))
  | succ r ih =>
    intro x hx h h'
    rw [nq_al_s] at h h'
    refine br_f (nI_nlt (by omega) (by omega)) (nq_agAt ha hb hA hB ht (by omega) hk hch e1 e2 ?_)
    cases w : nq_aa (nq_dl pa KA 7 0) (nq_dl pb KB 7 0) ch t x k with
    | true =>
      rw [w, cond_true] at h h'
      exact br_f nq_k1 (nm_r (nI_1 x) (ih (x + 1) (by omega) h h'))
    | false =>
      rw [w, cond_false] at h'
      exact br_t rfl (h' rfl)
theorem nq_ag2 {post : Int32 → Prop} {f1 f2 f3 f4 f5 : Int32} {a1 a2 a3 a4 a5 a6 a7 a8 a9 a10 a11 : Nat → Int32} {a b pa pb k : Nat} {KA KB ch : Nat → Nat} (ha : a < 2) (hb : b < 2) (hA : nq_C a1 a2 a3 a4 a5 a pa KA) (hB : nq_C a1 a2 a3 a4 a5 b pb KB) (hk : k < 6) (hch : ∀ i, i ≤ k → a9 i = nI (ch i) ∧ ch i < 6) (e1 : f1 = nI a) (e2 : f2 = nI b) :
    ∀ r t, t + r = 3 → post (nq_b (nq_al (fun t => nq_al (fun x => nq_aa (nq_dl pa KA 7 0) (nq_dl pb KB 7 0) ch t x k) (Nat.succ k) 0) r t)) → wX_agrees_2 post (nI k) f1 f2 f3 f4 f5 a1 a2 a3 a4 a5 a6 a7 a8 a9 a10 a11 (r + 1) (nI t) := by
  intro r
  induction r with
  | zero =>
    intro t ht h
    exact br_t (nI_le (a := 3) (by omega) (by omega)) h
  | succ r ih =>
    intro t ht h
    rw [nq_al_s] at h
    refine br_f (nI_ge (b := 3) (by omega) (by omega)) ⟨k + 2, nq_ag9 ha hb hA hB (by omega) hk hch e1 e2 (k + 1) 0 (by omega) (fun w => ih (t + 1) (by omega) ?_) (fun w => ?_)⟩
    · rw [w, cond_true] at h
      exact h
    · rw [w, cond_false] at h
      exact h
/-- agrees -/
theorem nq_agr {post : Int32 → Prop} {f1 f2 f3 f4 f5 : Int32} {a1 a2 a3 a4 a5 a6 a7 a8 a9 a10 a11 : Nat → Int32} {x : Int32} {a b pa pb k : Nat} {KA KB ch : Nat → Nat} (ha : a < 2) (hb : b < 2) (hA : nq_C a1 a2 a3 a4 a5 a pa KA) (hB : nq_C a1 a2 a3 a4 a5 b pb KB) (hk : k < 6) (hch : ∀ i, i ≤ k → a9 i = nI (ch i) ∧ ch i < 6) (e1 : f1 = nI a) (e2 : f2 = nI b) (hx : x = nI k)
    (h : post (nq_b (nq_ag (nq_dl pa KA 7 0) (nq_dl pb KB 7 0) ch k))) : wpX_agrees post (f1, f2, f3, f4, f5, a1, a2, a3, a4, a5, a6, a7, a8, a9, a10, a11) x := by
  subst hx
  unfold wpX_agrees
  exact ⟨4, nq_ag2 ha hb hA hB hk hch e1 e2 3 0 rfl h⟩
/-! nextNet -/
/-- the names (or marks) of circuit c -/
def nq_R (f : Nat → Int32) (c : Nat) (l : List Nat) : Prop := l.length = 6 ∧ ∀ i, i < 6 → f (c * 6 + i) = nI (nq_at l i) ∧ nq_at l i < 4294967296
theorem nq_bit6 : ∀ p, p < 64 → ∀ d, d < 6 → ((nI p >>> (nI d &&& 31)) &&& 1) = nI (p / 2 ^ d % 2) := by decide +kernel
theorem nq_n64 {post : Int32 → Prop} {J : Int32 → Prop} {f1 f2 f3 f4 f5 : Int32} {a1 a2 a3 a4 a5 a6 a7 a8 a9 a10 a11 : Nat → Int32} {x1 x3 : Int32} {a b lv j : Nat} {NA NB MA MB : List Nat} (ha : a < 2) (hb : b < 2) (hl : lv < 6) (hj : j < 6) (hNA : nq_R a6 a NA) (hNB : nq_R a6 b NB) (hMA : nq_R a7 a MA) (hMB : nq_R a7 b MB)
    (hT : cond (Nat.beq (nq_at NA lv) (nq_at NB j)) (Nat.beq (nq_at MA lv) (nq_at MB j)) false = true → post (nI j)) (hF : cond (Nat.beq (nq_at NA lv) (nq_at NB j)) (Nat.beq (nq_at MA lv) (nq_at MB j)) false = false → J (nI (j + 1))) : wX_nextNet_59 post J x1 x3 (nI (a * 6 + lv)) (nI j) (nI (b * 6 + j)) f1 f2 f3 f4 f5 a1 a2 a3 a4 a5 a6 a7 a8 a9 a10 a11 := by
  unfold wX_nextNet_59 wX_nextNet_64
  obtain ⟨n1, n2⟩ := hNA.2 lv hl
  obtain ⟨n3, n4⟩ := hNB.2 j hj
  obtain ⟨m1, m2⟩ := hMA.2 lv hl
  obtain ⟨m3, m4⟩ := hMB.2 j hj
  rw [nI_clamp (show a * 6 + lv < 2 ^ 31 by omega), nI_clamp (show b * 6 + j < 2 ^ 31 by omega), n1, n3, m1, m3]
  refine br_f nq_k1 ⟨pk_in (a * 6 + lv) 12 (by omega), pk_in (b * 6 + j) 12 (by omega), ek_if (nq_inj n2 n4) (fun z => ⟨pk_in (a * 6 + lv) 12 (by omega), pk_in (b * 6 + j) 12 (by omega), ek_if (nq_inj m2 m4) (fun w => hT ?_) (fun w => nm_r (nI_1 j) (hF ?_))⟩) (fun z => nm_r (nI_1 j) (hF ?_))⟩
  · rw [nq_bt z, cond_true, nq_bt w]
  · rw [nq_bt z, cond_true, nq_bf w]
  · rw [nq_bf z, cond_false]
theorem nq_n63 {post : Int32 → Prop} {J : Int32 → Prop} {f1 f2 f3 f4 f5 : Int32} {a1 a2 a3 a4 a5 a6 a7 a8 a9 a10 a11 : Nat → Int32} {x1 x3 x4 x6 : Int32} {j : Nat} (h : J (nI (j + 1))) : wX_nextNet_63 post J x1 x3 x4 (nI j) x6 f1 f2 f3 f4 f5 a1 a2 a3 a4 a5 a6 a7 a8 a9 a10 a11 := by
  unfold wX_nextNet_63 wX_nextNet_64
  exact br_t rfl (nm_r (nI_1 j) h)
theorem nq_n14 {post : Int32 → Prop} {f1 f2 f3 f4 f5 : Int32} {a1 a2 a3 a4 a5 a6 a7 a8 a9 a10 a11 : Nat → Int32} {a b lv us pn pt : Nat} {NA NB MA MB : List Nat} (ha : a < 2) (hb : b < 2) (hl : lv < 6) (hus : us < 64) (hNA : nq_R a6 a NA) (hNB : nq_R a6 b NB) (hMA : nq_R a7 a MA) (hMB : nq_R a7 b MB) (e2 : f2 = nI b) (hp1 : nI lv = f3 ↔ lv = pn) (hp2 : lv = pn → ∀ j, j < 6 → (nI j = f4 ↔ j = pt)) :
    ∀ r j, j + r = 6 → (nq_nn (nq_ok NA NB MA MB pn pt lv us) r j < 6 → post (nI (nq_nn (nq_ok NA NB MA MB pn pt lv us) r j))) → (nq_nn (nq_ok NA NB MA MB pn pt lv us) r j = 6 → post (-1)) → wX_nextNet_14 post (nI lv) (nI us) (nI (a * 6 + lv)) f1 f2 f3 f4 f5 a1 a2 a3 a4 a5 a6 a7 a8 a9 a10 a11 (r + 1) (nI j) := by
  intro r
  induction r with
  | zero =>
    intro j hj h h'
    exact br_t (nI_le (a := 6) (by omega) (by omega)) (h' rfl)
  | succ r ih =>
    intro j hj h h'
    have hj6 : j < 6 := by omega
    rw [nq_nn_s] at h h'
    have hF : nq_ok NA NB MA MB pn pt lv us j = false → wX_nextNet_14 post (nI lv) (nI us) (nI (a * 6 + lv)) f1 f2 f3 f4 f5 a1 a2 a3 a4 a5 a6 a7 a8 a9 a10 a11 (r + 1) (nI (j + 1)) := fun w => ih (j + 1) (by omega) (by rw [w, cond_false] at h; exact h) (by rw [w, cond_false] at h'; exact h')
    have hT : nq_ok NA NB MA MB pn pt lv us j = true → post (nI j) := fun w => by
      rw [w, cond_true] at h
      exact h hj6
    refine br_f (nI_ge (b := 6) hj6 (by omega)) (nm_r (e' := nI (b * 6 + j)) (by rw [e2]; exact nq_i6 b j) ?_)
    unfold nq_ok at hT hF
    refine pk_eq (us / 2 ^ j % 2) 0 (fun z => ?_) (fun z => ?_) (nq_bit6 us hus j hj6) rfl (nq_m22 _) (by decide)
    · rw [show Nat.beq (Nat.mod (Nat.div us (Nat.pow 2 j)) 2) 0 = true from nq_bt z, cond_true] at hT hF
      refine ek_if hp1 (fun z1 => ?_) (fun z1 => ?_)
      · rw [nq_bt z1, cond_true] at hT hF
        refine ek_if (hp2 z1 j hj6) (fun z2 => ?_) (fun z2 => ?_)
        · rw [nq_bt z2, cond_true] at hT hF
          exact nq_n64 ha hb hl hj6 hNA hNB hMA hMB hT hF
        · rw [nq_bf z2, cond_false] at hF
          exact nq_n63 (hF rfl)
      · rw [nq_bf z1, cond_false, cond_true] at hT hF
        exact nq_n64 ha hb hl hj6 hNA hNB hMA hMB hT hF
    · rw [show Nat.beq (Nat.mod (Nat.div us (Nat.pow 2 j)) 2) 0 = false from nq_bf z, cond_false] at hF
      exact nq_n63 (hF rfl)
/-- nextNet -/
theorem nq_next {post : Int32 → Prop} {f1 f2 f3 f4 f5 : Int32} {a1 a2 a3 a4 a5 a6 a7 a8 a9 a10 a11 : Nat → Int32} {x0 x1 x2 : Int32} {a b lv cur us pn pt : Nat} {NA NB MA MB : List Nat} (ha : a < 2) (hb : b < 2) (hl : lv < 6) (hus : us < 64) (hcur : cur ≤ 6) (hNA : nq_R a6 a NA) (hNB : nq_R a6 b NB) (hMA : nq_R a7 a MA) (hMB : nq_R a7 b MB) (e1 : f1 = nI a) (e2 : f2 = nI b) (hp1 : nI lv = f3 ↔ lv = pn) (hp2 : lv = pn → ∀ j, j < 6 → (nI j = f4 ↔ j = pt))
    (h0 : x0 = nI lv) (h1 : x1 = nI cur) (h2 : x2 = nI us)
    (h : nq_nn (nq_ok NA NB MA MB pn pt lv us) (6 - cur) cur < 6 → post (nI (nq_nn (nq_ok NA NB MA MB pn pt lv us) (6 - cur) cur))) (h' : nq_nn (nq_ok NA NB MA MB pn pt lv us) (6 - cur) cur = 6 → post (-1)) : wpX_nextNet post (f1, f2, f3, f4, f5, a1, a2, a3, a4, a5, a6, a7, a8, a9, a10, a11) x0 x1 x2 := by
  subst h0 h1 h2
  unfold wpX_nextNet
  exact nm_r (e' := nI (a * 6 + lv)) (by rw [e1]; exact nq_i6 a lv) ⟨6 - cur + 1, nq_n14 ha hb hl hus hNA hNB hMA hMB e2 hp1 hp2 (6 - cur) cur (by omega) h h'⟩
theorem nq_nnle (ok : Nat → Bool) : ∀ r j, j + r = 6 → nq_nn ok r j ≤ 6 := by
  intro r
  induction r with
  | zero => intro j _; exact Nat.le_refl 6
  | succ r ih =>
    intro j hj
    rw [nq_nn_s]
    cases ok j with
    | true => exact (by omega : j ≤ 6)
    | false => exact ih (j + 1) (by omega)
end
section
/-! marks -/
theorem nq_m2e {X : Nat} (hX : X < 4294967296) : nI X * 1000003 ^^^ ((nI X).toUInt32 >>> ((13 : Int32).toUInt32 &&& Int32.toUInt32 31)).toInt32 = nI (nq_m2 X) := by
  rw [pk_ushrN hX 13 13 (by decide), show (1000003 : Int32) = nI 1000003 from rfl, pk_mul, ← nq_mod (X * 1000003), nq_xor]
  rfl
theorem nq_mix {post : Int32 → Prop} {x y : Int32} {a b : Nat} (hx : x = nI a) (hy : y = nI b) (h : post (nI (nq_mx a b))) : wpX_mix post () x y := by
  subst hx hy
  unfold wpX_mix
  rw [nq_mx_eq] at h
  have e1 : nI a * 31 + nI b + 17 = nI ((a * 31 + b + 17) % 4294967296) := by
    rw [nq_mod, ← nI_add, ← nI_add, ← pk_mul]
    rfl
  refine nm_r e1 ?_
  rw [nq_m2e (Nat.mod_lt _ (by decide))]
  exact h
theorem nq_mxlt (a b : Nat) : nq_mx a b < 4294967296 := by
  rw [nq_mx_eq]
  have hX : (a * 31 + b + 17) % 4294967296 < 4294967296 := Nat.mod_lt _ (by decide)
  generalize (a * 31 + b + 17) % 4294967296 = X at hX
  exact Nat.xor_lt_two_pow (n := 32) (Nat.mod_lt _ (by decide)) (Nat.lt_of_le_of_lt (Nat.div_le_self X 8192) hX)
theorem nq_sp_eq (M X : List Nat) (m : Nat) : nq_sp M X m = cond (Nat.beq (m % 3) 2)
    (nq_ad (nq_ad X (m / 18 % 6) (nq_mx (nq_at M (m / 108)) (nq_mx (cond (Nat.beq (m % 3) 2) 0 (nq_at M (m / 3 % 6))) (m % 3)))) (m / 108) (nq_mx (nq_at M (m / 18 % 6)) (nq_mx (cond (Nat.beq (m % 3) 2) 0 (nq_at M (m / 3 % 6))) (m % 3))))
    (nq_ad (nq_ad (nq_ad X (m / 18 % 6) (nq_mx (nq_at M (m / 108)) (nq_mx (cond (Nat.beq (m % 3) 2) 0 (nq_at M (m / 3 % 6))) (m % 3)))) (m / 108) (nq_mx (nq_at M (m / 18 % 6)) (nq_mx (cond (Nat.beq (m % 3) 2) 0 (nq_at M (m / 3 % 6))) (m % 3)))) (m / 3 % 6) (nq_mx ((nq_at M (m / 18 % 6) + nq_at M (m / 108)) % 4294967296) (nq_mx (nq_at M (m / 18 % 6) * nq_at M (m / 108) % 4294967296) 99))) := by
  unfold nq_sp nq_s2 nq_s3
  simp only [nq_fN_eq]
  rfl
theorem nq_sp_len (M X : List Nat) (m : Nat) : (nq_sp M X m).length = X.length := by
  rw [nq_sp_eq]
  cases Nat.beq (m % 3) 2 with
  | true => rw [cond_true, nq_ad_len, nq_ad_len]
  | false => rw [cond_false, nq_ad_len, nq_ad_len, nq_ad_len]
theorem nq_ad_lt {l : List Nat} {i v : Nat} (hi : i < l.length) (h : ∀ j, nq_at l j < 4294967296) : ∀ j, nq_at (nq_ad l i v) j < 4294967296 := by
  intro j
  rw [nq_ad_at l i v j hi]
  by_cases e : j = i
  · rw [if_pos e]
    exact Nat.mod_lt _ (by decide)
  · rw [if_neg e]
    exact h j
theorem nq_sp_lt {M X : List Nat} {m : Nat} (hX : X.length = 6) (hm : m < 648) (h : ∀ j, nq_at X j < 4294967296) : ∀ j, nq_at (nq_sp M X m) j < 4294967296 := by
  rw [nq_sp_eq]
  have s1 : ∀ v, ∀ j, nq_at (nq_ad X (m / 18 % 6) v) j < 4294967296 := fun v => nq_ad_lt (by omega) h
  have s2 : ∀ v w, ∀ j, nq_at (nq_ad (nq_ad X (m / 18 % 6) v) (m / 108) w) j < 4294967296 := fun v w => nq_ad_lt (by rw [nq_ad_len]; omega) (s1 v)
  cases Nat.beq (m % 3) 2 with
  | true =>
    rw [cond_true]
    exact s2 _ _
  | false =>
    rw [cond_false]
    exact nq_ad_lt (by rw [nq_ad_len, nq_ad_len]; omega) (s2 _ _)
theorem nq_fo_ok (M : List Nat) : ∀ L : List Nat, (∀ m, m ∈ L → m < 648) → ∀ X : List Nat, X.length = 6 → (∀ j, nq_at X j < 4294967296) → (nq_fo M L X).length = 6 ∧ ∀ j, nq_at (nq_fo M L X) j < 4294967296 := by
  intro L
  induction L with
  | nil => intro _ X h1 h2; exact ⟨h1, h2⟩
  | cons m L ih =>
    intro hL X h1 h2
    rw [nq_fo_c]
    exact ih (fun k hk => hL k (List.mem_cons_of_mem _ hk)) _ (by rw [nq_sp_len]; exact h1) (nq_sp_lt h1 (hL m List.mem_cons_self) h2)
theorem nq_ma_lt (b : Nat) (l : List Nat) : ∀ j, nq_at (nq_ma b l) j < 4294967296 := by
  induction l with
  | nil => intro j; exact (by decide : 0 < 4294967296)
  | cons x l ih =>
    intro j
    rw [nq_ma_c]
    cases j with
    | zero => exact nq_mxlt x b
    | succ j => exact ih j
theorem nq_dl_mem {p : Nat} {K : Nat → Nat} {P : Nat → Prop} (h : ∀ d, d < 7 → p / 2 ^ d % 2 ≠ 0 → P (K d)) : ∀ r d, d + r = 7 → ∀ m, m ∈ nq_dl p K r d → P m := by
  intro r
  induction r with
  | zero => intro d _ m hm; exact absurd hm List.not_mem_nil
  | succ r ih =>
    intro d hd m hm
    rw [nq_dl_s] at hm
    by_cases e : p / 2 ^ d % 2 = 0
    · rw [nq_bt e, cond_true] at hm
      exact ih (d + 1) (by omega) m hm
    · rw [nq_bf e, cond_false] at hm
      rcases List.mem_cons.mp hm with z | z
      · rw [z]
        exact h d (by omega) e
      · exact ih (d + 1) (by omega) m z
theorem nq_up {f : Nat → Int32} {X : List Nat} {x v : Nat} {w : Int32} (hX : X.length = 6) (hx : x < 6) (h : ∀ i, i < 6 → f i = nI (nq_at X i)) (hw : w = nI v) : ∀ i, i < 6 → upd f x (f x + w) i = nI (nq_at (nq_ad X x v) i) := by
  intro i hi
  rw [nq_ad_at _ _ _ _ (by omega)]
  by_cases e : i = x
  · subst e
    rw [pk_us, if_pos rfl, nq_mod, h i hi, hw, nI_add]
  · rw [pk_un e, if_neg e]
    exact h i hi
theorem nq_s68 {post : St2 → Prop} {f1 f2 f3 f4 f5 : Int32} {a1 a2 a3 a4 a5 a6 a7 a8 a9 a10 a11 : Nat → Int32} {q t g x y vx vy z : Nat} {X : List Nat} (hq : q < 14) (ht : t < 3) (hg : g < 6) (hx : x < 6) (hy : y < 6) (q3 : a3 q = nI g) (q4 : a4 q = nI x) (q5 : a5 q = nI y) (hX : X.length = 6) (h8 : ∀ i, i < 6 → a8 i = nI (nq_at X i))
    (h : ∀ b8 : Nat → Int32, (∀ i, i < 6 → b8 i = nI (nq_at (cond (Nat.beq t 2) (nq_ad (nq_ad X x (nq_mx vy (nq_mx z t))) y (nq_mx vx (nq_mx z t))) (nq_ad (nq_ad (nq_ad X x (nq_mx vy (nq_mx z t))) y (nq_mx vx (nq_mx z t))) g (nq_mx ((vx + vy) % 4294967296) (nq_mx (vx * vy % 4294967296) 99)))) i)) → post (f1, f2, f3, f4, f5, a1, a2, a3, a4, a5, a6, a7, b8, a9, a10, a11)) : wX_spread_68 post (nI q) (nI t) (nI vx) (nI vy) (nI z) f1 f2 f3 f4 f5 a1 a2 a3 a4 a5 a6 a7 a8 a9 a10 a11 := by
  unfold wX_spread_68
  rw [nI_clamp (show q < 2 ^ 31 by omega), q3, q4, q5, nI_clamp (show x < 2 ^ 31 by omega), nI_clamp (show y < 2 ^ 31 by omega), nI_clamp (show g < 2 ^ 31 by omega)]
  refine nq_mix rfl rfl ?_
  unfold wpX_mixTwice
  refine nq_mix (a := vx * vy % 4294967296) (b := 99) (by rw [nq_mod, pk_mul]) rfl ⟨pk_in q 14 hq, pk_in x 12 (by omega), nq_mix rfl rfl ⟨pk_in x 12 (by omega), nm_e ⟨pk_in q 14 hq, pk_in y 12 (by omega), nq_mix rfl rfl ⟨pk_in y 12 (by omega), nm_e ?_⟩⟩⟩⟩
  have h18 := nq_up hX hx h8 (rfl : nI (nq_mx vy (nq_mx z t)) = nI (nq_mx vy (nq_mx z t)))
  have h23 := nq_up (by rw [nq_ad_len]; exact hX) hy h18 (rfl : nI (nq_mx vx (nq_mx z t)) = nI (nq_mx vx (nq_mx z t)))
  refine pk_eq t 2 (fun w => h _ ?_) (fun w => ⟨pk_in q 14 hq, pk_in g 12 (by omega), nq_mix (a := (vx + vy) % 4294967296) (by rw [nq_mod, nI_add]) rfl ⟨pk_in g 12 (by omega), nm_e (h _ ?_)⟩⟩)
  · rw [nq_bt w, cond_true]
    exact h23
  · rw [nq_bf w, cond_false]
    exact nq_up (by rw [nq_ad_len, nq_ad_len]; exact hX) hg h23 rfl
theorem nq_spr {post : St2 → Prop} {f1 f2 f3 f4 f5 : Int32} {a1 a2 a3 a4 a5 a6 a7 a8 a9 a10 a11 : Nat → Int32} {x y : Int32} {c p d : Nat} {K : Nat → Nat} {M X : List Nat} (hc : c < 2) (hC : nq_C a1 a2 a3 a4 a5 c p K) (hd : d < 7) (hb : p / 2 ^ d % 2 ≠ 0) (hM : nq_R a7 c M) (hX : X.length = 6) (h8 : ∀ i, i < 6 → a8 i = nI (nq_at X i)) (e0 : x = nI c) (e1 : y = nI (c * 7 + d))
    (h : ∀ b8 : Nat → Int32, (∀ i, i < 6 → b8 i = nI (nq_at (nq_sp M X (K d)) i)) → post (f1, f2, f3, f4, f5, a1, a2, a3, a4, a5, a6, a7, b8, a9, a10, a11)) : wpX_spread post (f1, f2, f3, f4, f5, a1, a2, a3, a4, a5, a6, a7, a8, a9, a10, a11) x y := by
  subst e0 e1
  obtain ⟨_, _, hK⟩ := hC
  obtain ⟨k1, k2, q2, q3, q4, q5⟩ := hK d hd hb
  clear hK
  generalize K d = m at *
  have hq : c * 7 + d < 14 := by omega
  have cl : (nI (c * 7 + d)).toNatClampNeg = c * 7 + d := nI_clamp (by omega)
  have hx6 : m / 18 % 6 < 6 := Nat.mod_lt _ (by decide)
  have hy6 : m / 108 < 6 := by omega
  have hg6 : m / 3 % 6 < 6 := Nat.mod_lt _ (by decide)
  have ea : ∀ i, i < 6 → a7 (nI c * 6 + nI i).toNatClampNeg = nI (nq_at M i) := fun i hi => by
    rw [nq_i6, nI_clamp (by omega), (hM.2 i hi).1]
  rw [nq_sp_eq] at h
  unfold wpX_spread
  dsimp only
  rw [cl, q2, q3, q4, q5, ea _ hx6, ea _ hy6, ea _ hg6]
  refine ⟨pk_in _ 14 hq, nm_e ⟨pk_in _ 14 hq, pk_in (c * 6 + m / 18 % 6) 12 (by omega) (nq_i6 _ _), nm_e ⟨pk_in _ 14 hq, pk_in (c * 6 + m / 108) 12 (by omega) (nq_i6 _ _), nm_e ?_⟩⟩⟩
  refine pk_eq (m % 3) 2 (fun w => ?_) (fun w => ⟨pk_in _ 14 hq, pk_in (c * 6 + m / 3 % 6) 12 (by omega) (nq_i6 _ _), ?_⟩)
  · refine nq_s68 (z := 0) hq (Nat.mod_lt _ (by decide)) hg6 hx6 hy6 q3 q4 q5 hX h8 (fun b8 hb8 => h b8 ?_)
    rw [nq_bt w, cond_true, cond_true]
    rw [nq_bt w, cond_true] at hb8
    exact hb8
  · refine nq_s68 hq (Nat.mod_lt _ (by decide)) hg6 hx6 hy6 q3 q4 q5 hX h8 (fun b8 hb8 => h b8 ?_)
    rw [nq_bf w, cond_false, cond_false]
    rw [nq_bf w, cond_false] at hb8
    exact hb8
/-! mark's loops -/
theorem nq_m119 {post : St2 → Prop} {J : Int32 → Int32 → Int32 → Int32 → Int32 → Int32 → (Nat → Int32) → (Nat → Int32) → (Nat → Int32) → (Nat → Int32) → (Nat → Int32) → (Nat → Int32) → (Nat → Int32) → (Nat → Int32) → (Nat → Int32) → (Nat → Int32) → (Nat → Int32) → Prop} {f1 f2 f3 f4 f5 : Int32} {a1 a2 a3 a4 a5 a6 a7 a8 a9 a10 a11 : Nat → Int32} {c rd : Nat} {X : List Nat} (hc : c < 2) (h8 : ∀ i, i < 6 → a8 i = nI (nq_at X i))
    (h : ∀ b7 : Nat → Int32, (∀ i, i < 6 → b7 (c * 6 + i) = nI (nq_at X i)) → (∀ j, (j < c * 6 ∨ c * 6 + 6 ≤ j) → b7 j = a7 j) → J (nI (rd + 1)) f1 f2 f3 f4 f5 a1 a2 a3 a4 a5 a6 b7 a8 a9 a10 a11) :
    ∀ r i (b7 : Nat → Int32), i + r = 6 → (∀ j, j < i → b7 (c * 6 + j) = nI (nq_at X j)) → (∀ j, (j < c * 6 ∨ c * 6 + 6 ≤ j) → b7 j = a7 j) → wX_mark_119 post J (nI c) (nI rd) f1 f2 f3 f4 f5 (r + 1) (nI i) a1 a2 a3 a4 a5 a6 b7 a8 a9 a10 a11 := by
  intro r
  induction r with
  | zero =>
    intro i b7 hi h1 h2
    exact br_t (nI_le (a := 6) (by omega) (by omega)) (nm_r (nI_1 rd) (h b7 (fun j hj => h1 j (by omega)) h2))
  | succ r ih =>
    intro i b7 hi h1 h2
    refine br_f (nI_ge (b := 6) (by omega) (by omega)) ⟨pk_in i 12 (by omega), pk_in (c * 6 + i) 12 (by omega) (nq_i6 c i), nm_r (e' := upd b7 (c * 6 + i) (nI (nq_at X i))) ?_ (nm_r (nI_1 i) (ih (i + 1) _ (by omega) (fun j hj => ?_) (fun j hj => ?_)))⟩
    · rw [nq_i6, nI_clamp (by omega), nI_clamp (by omega), h8 i (by omega)]
    · by_cases e : j = i
      · rw [e, pk_us]
      · rw [pk_un (by omega)]
        exact h1 j (by omega)
    · rw [pk_un (by omega)]
      exact h2 j hj
theorem nq_m85 {post : St2 → Prop} {J : Int32 → Int32 → Int32 → Int32 → Int32 → Int32 → (Nat → Int32) → (Nat → Int32) → (Nat → Int32) → (Nat → Int32) → (Nat → Int32) → (Nat → Int32) → (Nat → Int32) → (Nat → Int32) → (Nat → Int32) → (Nat → Int32) → (Nat → Int32) → Prop} {f1 f2 f3 f4 f5 : Int32} {a1 a2 a3 a4 a5 a6 a7 a8 a9 a10 a11 : Nat → Int32} {c rd p : Nat} {K : Nat → Nat} {M : List Nat} (hc : c < 2) (hC : nq_C a1 a2 a3 a4 a5 c p K) (hM : nq_R a7 c M) :
    ∀ r d (X : List Nat) (b8 : Nat → Int32), d + r = 7 → X.length = 6 → (∀ i, i < 6 → b8 i = nI (nq_at X i)) → (∀ b : Nat → Int32, (∀ i, i < 6 → b i = nI (nq_at (nq_fo M (nq_dl p K r d) X) i)) → ∃ fu : Nat, wX_mark_119 post J (nI c) (nI rd) f1 f2 f3 f4 f5 fu 0 a1 a2 a3 a4 a5 a6 a7 b a9 a10 a11) → wX_mark_85 post J (nI c) (nI rd) (r + 1) (nI d) f1 f2 f3 f4 f5 a1 a2 a3 a4 a5 a6 a7 b8 a9 a10 a11 := by
  intro r
  induction r with
  | zero =>
    intro d X b8 hd _ hb h
    exact br_t (nI_le (a := 7) (by omega) (by omega)) (h b8 hb)
  | succ r ih =>
    intro d X b8 hd hX hb h
    rw [nq_dl_s] at h
    refine br_f (nI_ge (b := 7) (by omega) (by omega)) (nq_has hc (by omega) hC.1 hC.2.1 (fun w => br_f nq_k1 (nq_spr hc hC (by omega) w hM hX hb rfl (nq_i7 c d) (fun b hb' => nm_r (nI_1 d) (ih (d + 1) (nq_sp M X (K d)) b (by omega) (by rw [nq_sp_len]; exact hX) hb' ?_)))) (fun w => br_t rfl (nm_r (nI_1 d) (ih (d + 1) X b8 (by omega) hX hb ?_))) rfl rfl)
    · rw [nq_bf w, cond_false] at h
      exact h
    · rw [nq_bt w, cond_true] at h
      exact h
theorem nq_m50 {post : St2 → Prop} {J : Int32 → Int32 → Int32 → Int32 → Int32 → Int32 → (Nat → Int32) → (Nat → Int32) → (Nat → Int32) → (Nat → Int32) → (Nat → Int32) → (Nat → Int32) → (Nat → Int32) → (Nat → Int32) → (Nat → Int32) → (Nat → Int32) → (Nat → Int32) → Prop} {f1 f2 f3 f4 f5 : Int32} {a1 a2 a3 a4 a5 a6 a7 a8 a9 a10 a11 : Nat → Int32} {c rd : Nat} {M : List Nat} (hc : c < 2) (hM : nq_R a7 c M) :
    ∀ r i (b8 : Nat → Int32), i + r = 6 → (∀ j, j < i → b8 j = nI (nq_at (nq_ma 1 M) j)) → (∀ b : Nat → Int32, (∀ j, j < 6 → b j = nI (nq_at (nq_ma 1 M) j)) → ∃ fu : Nat, wX_mark_85 post J (nI c) (nI rd) fu 0 f1 f2 f3 f4 f5 a1 a2 a3 a4 a5 a6 a7 b a9 a10 a11) → wX_mark_50 post J (nI c) (nI rd) f1 f2 f3 f4 f5 (r + 1) (nI i) a1 a2 a3 a4 a5 a6 a7 b8 a9 a10 a11 := by
  intro r
  induction r with
  | zero =>
    intro i b8 hi hb h
    exact br_t (nI_le (a := 6) (by omega) (by omega)) (h b8 (fun j hj => hb j (by omega)))
  | succ r ih =>
    intro i b8 hi hb h
    refine br_f (nI_ge (b := 6) (by omega) (by omega)) ⟨pk_in (c * 6 + i) 12 (by omega) (nq_i6 c i), nq_mix (a := nq_at M i) (b := 1) ?_ rfl ⟨pk_in i 12 (by omega), nm_r (e' := upd b8 i (nI (nq_mx (nq_at M i) 1))) ?_ (nm_r (nI_1 i) (ih (i + 1) _ (by omega) (fun j hj => ?_) h))⟩⟩
    · rw [nq_i6, nI_clamp (by omega), (hM.2 i (by omega)).1]
    · rw [nI_clamp (by omega)]
    · by_cases e : j = i
      · rw [e, pk_us, nq_ma_at 1 M i (by rw [hM.1]; omega)]
      · rw [pk_un e]
        exact hb j (by omega)
theorem nq_m42 {post : St2 → Prop} {f1 f2 f3 f4 f5 : Int32} {a1 a2 a3 a4 a5 a6 a7 a8 a9 a10 a11 : Nat → Int32} {c p : Nat} {K : Nat → Nat} (hc : c < 2) (hC : nq_C a1 a2 a3 a4 a5 c p K) :
    ∀ r rd (M : List Nat) (b7 b8 : Nat → Int32), rd + r = 6 → nq_R b7 c M → (∀ j, (j < c * 6 ∨ c * 6 + 6 ≤ j) → b7 j = a7 j) → (∀ d7 d8 : Nat → Int32, nq_R d7 c (nq_ro (nq_dl p K 7 0) r M) → (∀ j, (j < c * 6 ∨ c * 6 + 6 ≤ j) → d7 j = a7 j) → post (f1, f2, f3, f4, f5, a1, a2, a3, a4, a5, a6, d7, d8, a9, a10, a11)) → wX_mark_42 post (nI c) (r + 1) (nI rd) f1 f2 f3 f4 f5 a1 a2 a3 a4 a5 a6 b7 b8 a9 a10 a11 := by
  intro r
  induction r with
  | zero =>
    intro rd M b7 b8 hr hM ho h
    exact br_t (nI_le (a := 6) (by omega) (by omega)) (h b7 b8 hM ho)
  | succ r ih =>
    intro rd M b7 b8 hr hM ho h
    rw [nq_ro_s] at h
    have hok := nq_fo_ok M (nq_dl p K 7 0) (nq_dl_mem (P := fun m => m < 648) (fun d hd hb => (hC.2.2 d hd hb).1) 7 0 rfl) (nq_ma 1 M) (by rw [nq_ma_len]; exact hM.1) (nq_ma_lt 1 M)
    refine br_f (nI_ge (b := 6) (by omega) (by omega)) ⟨7, nq_m50 (a8 := a8) hc hM 6 0 b8 rfl (fun j hj => absurd hj (Nat.not_lt_zero _)) (fun b hb => ⟨8, nq_m85 (a8 := a8) hc hC hM 7 0 (nq_ma 1 M) b rfl (by rw [nq_ma_len]; exact hM.1) hb (fun b' hb' => ⟨7, nq_m119 (X := nq_fo M (nq_dl p K 7 0) (nq_ma 1 M)) hc hb' (fun d7 k1 k2 => ?_) 6 0 b7 rfl (fun j hj => absurd hj (Nat.not_lt_zero _)) (fun j hj => rfl)⟩)⟩)⟩
    exact ih (rd + 1) (nq_fo M (nq_dl p K 7 0) (nq_ma 1 M)) d7 b' (by omega) ⟨hok.1, fun i hi => ⟨k1 i hi, hok.2 i⟩⟩ (fun j hj => (k2 j hj).trans (ho j hj)) h
theorem nq_m2l {post : St2 → Prop} {f1 f2 f3 f4 f5 : Int32} {a1 a2 a3 a4 a5 a6 a7 a8 a9 a10 a11 : Nat → Int32} {c : Nat} {N : List Nat} (hc : c < 2) (hN : nq_R a6 c N) :
    ∀ r i (b7 : Nat → Int32), i + r = 6 → (∀ j, j < i → b7 (c * 6 + j) = nI (nq_at (nq_ma 5 N) j)) → (∀ j, (j < c * 6 ∨ c * 6 + 6 ≤ j) → b7 j = a7 j) → (∀ d7 : Nat → Int32, (∀ j, j < 6 → d7 (c * 6 + j) = nI (nq_at (nq_ma 5 N) j)) → (∀ j, (j < c * 6 ∨ c * 6 + 6 ≤ j) → d7 j = a7 j) → ∃ fu : Nat, wX_mark_42 post (nI c) fu 0 f1 f2 f3 f4 f5 a1 a2 a3 a4 a5 a6 d7 a8 a9 a10 a11) → wX_mark_2 post (nI c) f1 f2 f3 f4 f5 (r + 1) (nI i) a1 a2 a3 a4 a5 a6 b7 a8 a9 a10 a11 := by
  intro r
  induction r with
  | zero =>
    intro i b7 hi hb ho h
    exact br_t (nI_le (a := 6) (by omega) (by omega)) (h b7 (fun j hj => hb j (by omega)) ho)
  | succ r ih =>
    intro i b7 hi hb ho h
    refine br_f (nI_ge (b := 6) (by omega) (by omega)) ⟨pk_in (c * 6 + i) 12 (by omega) (nq_i6 c i), nq_mix (a := nq_at N i) (b := 5) ?_ rfl ⟨pk_in (c * 6 + i) 12 (by omega) (nq_i6 c i), nm_r (e' := upd b7 (c * 6 + i) (nI (nq_mx (nq_at N i) 5))) ?_ (nm_r (nI_1 i) (ih (i + 1) _ (by omega) (fun j hj => ?_) (fun j hj => ?_) h))⟩⟩
    · rw [nq_i6, nI_clamp (by omega), (hN.2 i (by omega)).1]
    · rw [nq_i6, nI_clamp (by omega)]
    · by_cases e : j = i
      · rw [e, pk_us, nq_ma_at 5 N i (by rw [hN.1]; omega)]
      · rw [pk_un (by omega)]
        exact hb j (by omega)
    · rw [pk_un (by omega)]
      exact ho j hj
/-- mark -/
theorem nq_mrk {post : St2 → Prop} {f1 f2 f3 f4 f5 : Int32} {a1 a2 a3 a4 a5 a6 a7 a8 a9 a10 a11 : Nat → Int32} {x : Int32} {c p : Nat} {K : Nat → Nat} {N : List Nat} (hc : c < 2) (hC : nq_C a1 a2 a3 a4 a5 c p K) (hN : nq_R a6 c N) (hx : x = nI c)
    (h : ∀ d7 d8 : Nat → Int32, nq_R d7 c (nq_mk N (nq_dl p K 7 0)) → (∀ j, (j < c * 6 ∨ c * 6 + 6 ≤ j) → d7 j = a7 j) → post (f1, f2, f3, f4, f5, a1, a2, a3, a4, a5, a6, d7, d8, a9, a10, a11)) : wpX_mark post (f1, f2, f3, f4, f5, a1, a2, a3, a4, a5, a6, a7, a8, a9, a10, a11) x := by
  subst hx
  unfold wpX_mark
  rw [nq_mk_eq] at h
  refine ⟨7, nq_m2l hc hN 6 0 a7 rfl (fun j hj => absurd hj (Nat.not_lt_zero _)) (fun _ _ => rfl) (fun d7 h1 h2 => ⟨7, ?_⟩)⟩
  exact nq_m42 (a8 := a8) hc hC 6 0 (nq_ma 5 N) d7 a8 rfl ⟨by rw [nq_ma_len]; exact hN.1, fun i hi => ⟨h1 i hi, nq_ma_lt 5 N i⟩⟩ h2 h
end
section
/-! note -/
theorem nq_or6 : ∀ p, p < 64 → ∀ c, c < 6 → (nI p ||| ((1 : Int32) <<< (nI c &&& 31))).toInt8.toInt32 = nI (Nat.lor p (2 ^ c)) ∧ nI p ||| ((1 : Int32) <<< (nI c &&& 31)) = nI (Nat.lor p (2 ^ c)) ∧ Nat.lor p (2 ^ c) < 64 := by decide +kernel
theorem nq_an6 : ∀ p, p < 64 → ∀ c, c < 6 → nI p &&& (((1 : Int32) <<< (nI c &&& 31)) ^^^ (-1)) = nI (Nat.land p (Nat.xor 63 (2 ^ c))) ∧ Nat.land p (Nat.xor 63 (2 ^ c)) < 64 := by decide +kernel
theorem nq_by6 : ∀ c, c < 6 → (nI c).toInt8.toInt32 = nI c ∧ ¬ nI c = -1 := by decide +kernel
theorem nq_n27 {post : St2 → Prop} {J : Int32 → (Nat → Int32) → (Nat → Int32) → (Nat → Int32) → (Nat → Int32) → (Nat → Int32) → (Nat → Int32) → (Nat → Int32) → (Nat → Int32) → (Nat → Int32) → (Nat → Int32) → (Nat → Int32) → Prop} {f1 f2 f3 f4 f5 : Int32} {a1 a2 a3 a4 a5 a6 a7 a8 a9 a10 a11 : Nat → Int32} {i c p : Nat} (hi : i < 6) (h9 : a9 i = nI c) (hc : c < 6) (h11 : a11 i = nI p) (hp : p < 64) (h : J (nI (i + 1)) a1 a2 a3 a4 a5 a6 a7 a8 a9 a10 (upd a11 i (nI (Nat.lor p (2 ^ c))))) : wX_note_27 post J (nI i) f1 f2 f3 f4 f5 a1 a2 a3 a4 a5 a6 a7 a8 a9 a10 a11 := by
  unfold wX_note_27
  refine ⟨pk_in i 6 hi, pk_in i 8 (by omega), pk_in i 6 hi, nm_r ?_ (nm_r (nI_1 i) h)⟩
  rw [nI_clamp (by omega), h9, h11, (nq_or6 p hp c hc).1]
theorem nq_n2 {post : St2 → Prop} {f1 f2 f3 f4 f5 : Int32} {a1 a2 a3 a4 a5 a6 a7 a8 a9 a10 a11 : Nat → Int32} {F : Nat} {ch P : Nat → Nat} (hF : F < 2 ^ 30) (hch : ∀ i, i < 6 → a9 i = nI (ch i) ∧ ch i < 6) (hP : ∀ i, i < 6 → P i < 64)
    (h : ∀ d10 d11 : Nat → Int32, (F = 0 → ∀ i, i < 6 → d10 i = nI (ch i)) → (F ≠ 0 → ∀ i, i < 6 → d10 i = a10 i) → (∀ i, i < 6 → d11 i = nI (Nat.lor (P i) (2 ^ ch i))) → post (f1, f2, f3, f4, (nI (F + 1)), a1, a2, a3, a4, a5, a6, a7, a8, a9, d10, d11)) :
    ∀ r i (b10 b11 : Nat → Int32), i + r = 6 → (F = 0 → ∀ j, j < i → b10 j = nI (ch j)) → (F ≠ 0 → ∀ j, j < 6 → b10 j = a10 j) → (∀ j, j < i → b11 j = nI (Nat.lor (P j) (2 ^ ch j))) → (∀ j, i ≤ j → j < 6 → b11 j = nI (P j)) → wX_note_2 post f1 f2 f3 f4 (nI F) (r + 1) (nI i) a1 a2 a3 a4 a5 a6 a7 a8 a9 b10 b11 := by
  intro r
  induction r with
  | zero =>
    intro i b10 b11 hi h1 h2 h3 h4
    exact br_t (nI_le (a := 6) (by omega) (by omega)) (nm_r (nI_1 F) (h b10 b11 (fun z j hj => h1 z j (by omega)) h2 (fun j hj => h3 j (by omega))))
  | succ r ih =>
    intro i b10 b11 hi h1 h2 h3 h4
    have hi6 : i < 6 := by omega
    have h3' : ∀ j, j < i + 1 → upd b11 i (nI (Nat.lor (P i) (2 ^ ch i))) j = nI (Nat.lor (P j) (2 ^ ch j)) := fun j hj => by
      by_cases e : j = i
      · rw [e, pk_us]
      · rw [pk_un e]
        exact h3 j (by omega)
    have h4' : ∀ j, i + 1 ≤ j → j < 6 → upd b11 i (nI (Nat.lor (P i) (2 ^ ch i))) j = nI (P j) := fun j hj hj6 => by
      rw [pk_un (by omega)]
      exact h4 j (by omega) hj6
    refine br_f (nI_ge (b := 6) hi6 (by omega)) (pk_eq F 0 (fun z => ⟨pk_in i 8 (by omega), pk_in i 6 hi6, nm_r (e' := upd b10 i (nI (ch i))) ?_ (nq_n27 hi6 (hch i hi6).1 (hch i hi6).2 (h4 i (Nat.le_refl i) hi6) (hP i hi6) (ih (i + 1) _ _ (by omega) (fun _ j hj => ?_) (fun w => absurd z w) h3' h4'))⟩) (fun z => nq_n27 hi6 (hch i hi6).1 (hch i hi6).2 (h4 i (Nat.le_refl i) hi6) (hP i hi6) (ih (i + 1) _ _ (by omega) (fun w => absurd w z) h2 h3' h4')))
    · rw [nI_clamp (by omega), (hch i hi6).1, vp_nar_byte, (nq_by6 (ch i) (hch i hi6).2).1]
    · by_cases e : j = i
      · rw [e, pk_us]
      · rw [pk_un e]
        exact h1 z j (by omega)
/-- note -/
theorem nq_note {post : St2 → Prop} {f1 f2 f3 f4 f5 : Int32} {a1 a2 a3 a4 a5 a6 a7 a8 a9 a10 a11 : Nat → Int32} {F : Nat} {ch P : Nat → Nat} (hF : F < 2 ^ 30) (hch : ∀ i, i < 6 → a9 i = nI (ch i) ∧ ch i < 6) (hP : ∀ i, i < 6 → a11 i = nI (P i) ∧ P i < 64) (e5 : f5 = nI F)
    (h : ∀ d10 d11 : Nat → Int32, (F = 0 → ∀ i, i < 6 → d10 i = nI (ch i)) → (F ≠ 0 → ∀ i, i < 6 → d10 i = a10 i) → (∀ i, i < 6 → d11 i = nI (Nat.lor (P i) (2 ^ ch i))) → post (f1, f2, f3, f4, (nI (F + 1)), a1, a2, a3, a4, a5, a6, a7, a8, a9, d10, d11)) : wpX_note post (f1, f2, f3, f4, f5, a1, a2, a3, a4, a5, a6, a7, a8, a9, a10, a11) := by
  subst e5
  unfold wpX_note
  exact ⟨7, nq_n2 (f5 := nI F) (a11 := a11) hF hch (fun i hi => (hP i hi).2) h 6 0 a10 a11 rfl (fun _ j hj => absurd hj (Nat.not_lt_zero _)) (fun _ _ _ => rfl) (fun j hj => absurd hj (Nat.not_lt_zero _)) (fun j _ hj => (hP j hj).1)⟩
/-! the loop of search -/
theorem nq_s168 {post : St2 → Prop} {J : Int32 → Int32 → Int32 → Int32 → Int32 → Int32 → Int32 → Int32 → (Nat → Int32) → (Nat → Int32) → (Nat → Int32) → (Nat → Int32) → (Nat → Int32) → (Nat → Int32) → (Nat → Int32) → (Nat → Int32) → (Nat → Int32) → (Nat → Int32) → (Nat → Int32) → Prop} {f1 f2 f3 f4 f5 : Int32} {a1 a2 a3 a4 a5 a6 a7 a8 a9 a10 a11 : Nat → Int32} {x4 : Int32} {a b pa pb lv rd : Nat} {KA KB ch : Nat → Nat} (ha : a < 2) (hb : b < 2) (hA : nq_C a1 a2 a3 a4 a5 a pa KA) (hB : nq_C a1 a2 a3 a4 a5 b pb KB) (hl : lv < 6) (hch : ∀ i, i ≤ lv → a9 i = nI (ch i) ∧ ch i < 6) (e1 : f1 = nI a) (e2 : f2 = nI b)
    (hS : (5 ≤ lv ∨ nq_ag (nq_dl pa KA 7 0) (nq_dl pb KB 7 0) ch lv = false) → J (nI lv) x4 (nI (rd + 1)) f1 f2 f3 f4 f5 a1 a2 a3 a4 a5 a6 a7 a8 a9 a10 a11)
    (hP : lv < 5 → nq_ag (nq_dl pa KA 7 0) (nq_dl pb KB 7 0) ch lv = true → J (nI (lv + 1)) x4 (nI (rd + 1)) f1 f2 f3 f4 f5 a1 a2 a3 a4 a5 a6 a7 a8 (upd a9 (lv + 1) (-1)) a10 a11) : wX_search_168 post J (nI lv) x4 (nI rd) f1 f2 f3 f4 f5 a1 a2 a3 a4 a5 a6 a7 a8 a9 a10 a11 := by
  unfold wX_search_168
  refine pk_le 5 lv (fun z => nm_r (nI_1 rd) (hS (Or.inl z))) (fun z => nq_agr ha hb hA hB hl hch e1 e2 rfl ?_)
  cases w : nq_ag (nq_dl pa KA 7 0) (nq_dl pb KB 7 0) ch lv with
  | false => exact br_t rfl (nm_r (nI_1 rd) (hS (Or.inr w)))
  | true =>
    refine br_f nq_k1 (nm_r (nI_1 lv) ⟨pk_in (lv + 1) 8 (by omega), nm_r (e' := upd a9 (lv + 1) (-1)) ?_ (nm_r (nI_1 rd) (hP z w))⟩)
    rw [nI_clamp (by omega)]
theorem nq_s102 {post : St2 → Prop} {J : Int32 → Int32 → Int32 → Int32 → Int32 → Int32 → Int32 → Int32 → (Nat → Int32) → (Nat → Int32) → (Nat → Int32) → (Nat → Int32) → (Nat → Int32) → (Nat → Int32) → (Nat → Int32) → (Nat → Int32) → (Nat → Int32) → (Nat → Int32) → (Nat → Int32) → Prop} {f1 f2 f3 f4 f5 : Int32} {a1 a2 a3 a4 a5 a6 a7 a8 a9 a10 a11 : Nat → Int32} {a b pa pb lv cur us rd pn pt F : Nat} {KA KB P : Nat → Nat} {NA NB MA MB st : List Nat} (ha : a < 2) (hb : b < 2) (hA : nq_C a1 a2 a3 a4 a5 a pa KA) (hB : nq_C a1 a2 a3 a4 a5 b pb KB) (hNA : nq_R a6 a NA) (hNB : nq_R a6 b NB) (hMA : nq_R a7 a MA) (hMB : nq_R a7 b MB) (hl : lv < 6) (hus : us < 64) (hc : cur ≤ 6)
    (e1 : f1 = nI a) (e2 : f2 = nI b) (hp1 : nI lv = f3 ↔ lv = pn) (hp2 : lv = pn → ∀ j, j < 6 → (nI j = f4 ↔ j = pt)) (hst : ∀ i, i < lv → a9 i = nI (nq_at st (lv - 1 - i)) ∧ nq_at st (lv - 1 - i) < 6) (hcur : a9 lv + 1 = nI cur) (hF : F < 2 ^ 30) (e5 : f5 = nI F) (h11 : ∀ i, i < 6 → a11 i = nI (P i) ∧ P i < 64)
    (hPop : nq_nn (nq_ok NA NB MA MB pn pt lv us) (6 - cur) cur = 6 → J (nI lv + (-1)) (nI us) (nI (rd + 1)) f1 f2 f3 f4 f5 a1 a2 a3 a4 a5 a6 a7 a8 (upd a9 lv (-1)) a10 a11)
    (hStay : ∀ nx, nx = nq_nn (nq_ok NA NB MA MB pn pt lv us) (6 - cur) cur → nx < 6 → nq_ag (nq_dl pa KA 7 0) (nq_dl pb KB 7 0) (fun i => nq_at (nx :: st) (lv - i)) lv = false → J (nI lv) (nI (Nat.lor us (2 ^ nx))) (nI (rd + 1)) f1 f2 f3 f4 f5 a1 a2 a3 a4 a5 a6 a7 a8 (upd a9 lv (nI nx)) a10 a11)
    (hPush : ∀ nx, nx = nq_nn (nq_ok NA NB MA MB pn pt lv us) (6 - cur) cur → nx < 6 → nq_ag (nq_dl pa KA 7 0) (nq_dl pb KB 7 0) (fun i => nq_at (nx :: st) (lv - i)) lv = true → lv < 5 → J (nI (lv + 1)) (nI (Nat.lor us (2 ^ nx))) (nI (rd + 1)) f1 f2 f3 f4 f5 a1 a2 a3 a4 a5 a6 a7 a8 (upd (upd a9 lv (nI nx)) (lv + 1) (-1)) a10 a11)
    (hNote : ∀ nx, nx = nq_nn (nq_ok NA NB MA MB pn pt lv us) (6 - cur) cur → nx < 6 → nq_ag (nq_dl pa KA 7 0) (nq_dl pb KB 7 0) (fun i => nq_at (nx :: st) (lv - i)) lv = true → lv = 5 → ∀ d10 d11 : Nat → Int32, (F = 0 → ∀ i, i < 6 → d10 i = nI (nq_at (nx :: st) (5 - i))) → (F ≠ 0 → ∀ i, i < 6 → d10 i = a10 i) → (∀ i, i < 6 → d11 i = nI (Nat.lor (P i) (2 ^ nq_at (nx :: st) (5 - i)))) → J (nI lv) (nI (Nat.lor us (2 ^ nx))) (nI (rd + 1)) f1 f2 f3 f4 (nI (F + 1)) a1 a2 a3 a4 a5 a6 a7 a8 (upd a9 lv (nI nx)) d10 d11) :
    wX_search_102 post J (nI lv) (nI us) (nI rd) f1 f2 f3 f4 f5 a1 a2 a3 a4 a5 a6 a7 a8 a9 a10 a11 := by
  unfold wX_search_102
  have cl : (nI lv).toNatClampNeg = lv := nI_clamp (by omega)
  rw [cl]
  refine ⟨pk_in lv 8 (by omega), nq_next ha hb hl hus hc hNA hNB hMA hMB e1 e2 hp1 hp2 rfl hcur rfl (fun hn => ?_) (fun hn => ?_)⟩
  · generalize hnx : nq_nn (nq_ok NA NB MA MB pn pt lv us) (6 - cur) cur = nx at *
    have hch : ∀ i, i ≤ lv → upd a9 lv (nI nx) i = nI (nq_at (nx :: st) (lv - i)) ∧ nq_at (nx :: st) (lv - i) < 6 := fun i hi => by
      by_cases e : i = lv
      · rw [e, pk_us, Nat.sub_self]
        exact ⟨rfl, hn⟩
      · rw [pk_un e, show lv - i = lv - 1 - i + 1 by omega]
        exact hst i (by omega)
    refine ⟨pk_in lv 8 (by omega), nm_r (e' := upd a9 lv (nI nx)) (by rw [(nq_by6 nx hn).1]) (br_t (nI_pos' (by omega)) (nm_r (nq_or6 us hus nx hn).2.1 (nq_agr (ch := fun i => nq_at (nx :: st) (lv - i)) ha hb hA hB hl hch e1 e2 rfl ?_)))⟩
    cases w : nq_ag (nq_dl pa KA 7 0) (nq_dl pb KB 7 0) (fun i => nq_at (nx :: st) (lv - i)) lv with
    | false => exact br_t rfl (nq_s168 (ch := fun i => nq_at (nx :: st) (lv - i)) ha hb hA hB hl hch e1 e2 (fun _ => hStay nx rfl hn w) (fun _ z => absurd (w.symm.trans z) (by decide)))
    | true =>
      refine br_f nq_k1 (pk_eq lv 5 (fun z => ?_) (fun z => nq_s168 (ch := fun i => nq_at (nx :: st) (lv - i)) ha hb hA hB hl hch e1 e2 (fun y => y.elim (fun y => absurd y (by omega)) (fun y => absurd (w.symm.trans y) (by decide))) (fun y _ => hPush nx rfl hn w y)))
      refine nq_note (ch := fun i => nq_at (nx :: st) (5 - i)) hF (fun i hi => ?_) h11 e5 (fun d10 d11 k1 k2 k3 => nm_r (nI_1 rd) (hNote nx rfl hn w z d10 d11 k1 k2 k3))
      have q := hch i (by omega)
      rw [z] at q
      rw [z]
      exact q
  · refine ⟨pk_in lv 8 (by omega), nm_r (e' := upd a9 lv (-1)) rfl (br_f (by decide) (nm_e (nm_r (nI_1 rd) (hPop hn))))⟩
/-- what a search has found so far, as the arrays hold it -/
def nq_L (a10 a11 : Nat → Int32) (lf : List (List Nat)) : Prop := (lf ≠ [] → ∀ i, i < 6 → a10 i = nI (nq_at (nq_fi lf) (5 - i))) ∧ ∀ i, i < 6 → a11 i = nI (nq_po lf i) ∧ nq_po lf i < 64
theorem nq_cl_0 (us : Nat) : nq_cl us 0 = us := rfl
theorem nq_cl_s (us c : Nat) : nq_cl us (c + 1) = Nat.land us (Nat.xor 63 (2 ^ c)) := rfl
theorem nq_cl_lt {us cur : Nat} (hu : us < 64) (hc : cur ≤ 6) : nq_cl us cur < 64 := by
  cases cur with
  | zero => exact hu
  | succ c => exact (nq_an6 us hu c (by omega)).2
theorem nq_s66 {post : St2 → Prop} {f1 f2 f3 f4 : Int32} {a1 a2 a3 a4 a5 a6 a7 a8 : Nat → Int32} {a b pa pb pn pt : Nat} {KA KB : Nat → Nat} {NA NB MA MB : List Nat} (ha : a < 2) (hb : b < 2) (hA : nq_C a1 a2 a3 a4 a5 a pa KA) (hB : nq_C a1 a2 a3 a4 a5 b pb KB) (hNA : nq_R a6 a NA) (hNB : nq_R a6 b NB) (hMA : nq_R a7 a MA) (hMB : nq_R a7 b MB)
    (e1 : f1 = nI a) (e2 : f2 = nI b) (hp1 : ∀ lv, lv < 6 → (nI lv = f3 ↔ lv = pn)) (hp2 : ∀ lv, lv < 6 → lv = pn → ∀ j, j < 6 → (nI j = f4 ↔ j = pt)) {res : List (List Nat)}
    (h : ∀ a9 a10 a11 : Nat → Int32, nq_L a10 a11 res → res.length ≤ 8192 → post (f1, f2, f3, f4, nI res.length, a1, a2, a3, a4, a5, a6, a7, a8, a9, a10, a11)) :
    ∀ n (st : List Nat) lv cur us (lf : List (List Nat)) rd (a9 a10 a11 : Nat → Int32), nq_sr (nq_ok NA NB MA MB pn pt) (fun l k => nq_ag (nq_dl pa KA 7 0) (nq_dl pb KB 7 0) (fun i => nq_at l (Nat.sub k i)) k) n st lv cur us lf = some res →
      lv < 6 → us < 64 → cur ≤ 6 → st.length = lv → (∀ i, i < lv → a9 i = nI (nq_at st (lv - 1 - i)) ∧ nq_at st (lv - 1 - i) < 6) → (cur = 0 → a9 lv = -1) → (∀ c, cur = c + 1 → a9 lv = nI c) → nq_L a10 a11 lf → rd + n ≤ 8191 → lf.length ≤ rd →
      wX_search_66 post (n + 1) (nI lv) (nI us) (nI rd) f1 f2 f3 f4 (nI lf.length) a1 a2 a3 a4 a5 a6 a7 a8 a9 a10 a11 := by
  intro n
  induction n with
  | zero => intro st lv cur us lf rd a9 a10 a11 hr; exact absurd hr (by intro z; cases z)
  | succ n ih =>
    intro st lv cur us lf rd a9 a10 a11 hr hl hu hc hlen hst hc0 hc1 hL hrd hlf
    rw [nq_sr_s] at hr
    have hu1 : nq_cl us cur < 64 := nq_cl_lt hu hc
    have cl : (nI lv).toNatClampNeg = lv := nI_clamp (by omega)
    have hcur : a9 lv + 1 = nI cur := by
      cases cur with
      | zero => rw [hc0 rfl]; rfl
      | succ c => rw [hc1 c rfl, nI_1]
    have main : wX_search_102 post (wX_search_66 post (n + 1)) (nI lv) (nI (nq_cl us cur)) (nI rd) f1 f2 f3 f4 (nI lf.length) a1 a2 a3 a4 a5 a6 a7 a8 a9 a10 a11 := by
      refine nq_s102 (F := lf.length) (P := nq_po lf) (cur := cur) (st := st) ha hb hA hB hNA hNB hMA hMB hl hu1 hc e1 e2 (hp1 lv hl) (hp2 lv hl) hst hcur (by omega) rfl hL.2 (fun hn => ?_) (fun nx hn hx w => ?_) (fun nx hn hx w hl5 => ?_) (fun nx hn hx w hl5 d10 d11 k1 k2 k3 => ?_)
      · rw [nq_bt hn, cond_true] at hr
        cases st with
        | nil =>
          have e0 : lv = 0 := hlen.symm
          have er : lf = res := Option.some.inj hr
          subst er
          rw [e0]
          exact br_f (nI_ge (b := 8192) (by omega) (by omega)) (br_t (by decide) (h _ _ _ hL (by omega)))
        | cons v s =>
          have e0 : lv = s.length + 1 := hlen.symm
          have hst0 := hst (lv - 1) (by omega)
          rw [show lv - 1 - (lv - 1) = 0 by omega, nq_at_0] at hst0
          rw [show nI lv + (-1) = nI (lv - 1) from sb_m1 (by omega)]
          refine ih s (lv - 1) (v + 1) (nq_cl us cur) lf (rd + 1) _ a10 a11 hr (by omega) hu1 (by omega) (by omega) (fun i hi => ?_) (fun z => absurd z (by omega)) (fun c hc2 => ?_) hL (by omega) (by omega)
          · rw [pk_un (by omega)]
            have q := hst i (by omega)
            rw [show lv - 1 - i = lv - 1 - 1 - i + 1 by omega, nq_at_s] at q
            exact q
          · rw [pk_un (by omega), hst0.1]
            exact congrArg nI (by omega)
      · rw [← hn, nq_bf (by omega), cond_false] at hr
        have w' : nq_ag (nq_dl pa KA 7 0) (nq_dl pb KB 7 0) (fun i => nq_at (nx :: st) (Nat.sub lv i)) lv = false := w
        rw [w', cond_false] at hr
        refine ih st lv (nx + 1) _ lf (rd + 1) _ a10 a11 hr hl (nq_or6 _ hu1 nx hx).2.2 (by omega) hlen (fun i hi => ?_) (fun z => absurd z (by omega)) (fun c hc2 => ?_) hL (by omega) (by omega)
        · rw [pk_un (by omega)]
          exact hst i hi
        · rw [pk_us]
          exact congrArg nI (by omega)
      · rw [← hn, nq_bf (by omega), cond_false] at hr
        have w' : nq_ag (nq_dl pa KA 7 0) (nq_dl pb KB 7 0) (fun i => nq_at (nx :: st) (Nat.sub lv i)) lv = true := w
        rw [w', cond_true, nq_bf (by omega), cond_false] at hr
        refine ih (nx :: st) (lv + 1) 0 _ lf (rd + 1) _ a10 a11 hr (by omega) (nq_or6 _ hu1 nx hx).2.2 (by omega) (by rw [List.length_cons, hlen]) (fun i hi => ?_) (fun _ => pk_us) (fun c hc2 => absurd hc2 (by omega)) hL (by omega) (by omega)
        rw [pk_un (by omega)]
        by_cases e : i = lv
        · rw [e, pk_us, show lv + 1 - 1 - lv = 0 by omega, nq_at_0]
          exact ⟨rfl, hx⟩
        · rw [pk_un e, show lv + 1 - 1 - i = lv - 1 - i + 1 by omega, nq_at_s]
          exact hst i (by omega)
      · rw [← hn, nq_bf (by omega), cond_false] at hr
        have w' : nq_ag (nq_dl pa KA 7 0) (nq_dl pb KB 7 0) (fun i => nq_at (nx :: st) (Nat.sub lv i)) lv = true := w
        rw [w', cond_true, nq_bt hl5, cond_true] at hr
        refine ih st lv (nx + 1) _ ((nx :: st) :: lf) (rd + 1) _ d10 d11 hr hl (nq_or6 _ hu1 nx hx).2.2 (by omega) hlen (fun i hi => ?_) (fun z => absurd z (by omega)) (fun c hc2 => ?_) ⟨fun _ i hi => ?_, fun i hi => ⟨k3 i hi, ?_⟩⟩ (by omega) (by rw [List.length_cons]; omega)
        · rw [pk_un (by omega)]
          exact hst i hi
        · rw [pk_us]
          exact congrArg nI (by omega)
        · cases lf with
          | nil => exact k1 rfl i hi
          | cons m r =>
            rw [k2 (by rw [List.length_cons]; omega) i hi]
            exact hL.1 (List.cons_ne_nil _ _) i hi
        · have q : nq_at (nx :: st) (5 - i) < 6 := by
            by_cases e : i = 5
            · rw [e, Nat.sub_self]
              exact hx
            · rw [show 5 - i = lv - 1 - i + 1 by omega, nq_at_s]
              exact (hst i (by omega)).2
          exact (nq_or6 _ (hL.2 i hi).2 _ q).2.2
    refine br_f (nI_ge (b := 8192) (by omega) (by omega)) (br_f (nI_pos (by omega)) ⟨pk_in lv 8 (by omega), ?_⟩)
    rw [cl]
    cases cur with
    | zero =>
      exact br_t (by rw [hc0 rfl]; decide) main
    | succ c =>
      rw [hc1 c rfl]
      refine br_f (nI_pos (by omega)) ⟨pk_in lv 8 (by omega), nm_r ((nq_an6 us hu c (by omega)).1) main⟩
/-! search -/
theorem nq_s17 {post : St2 → Prop} {f1 f2 f3 f4 f5 : Int32} {a1 a2 a3 a4 a5 a6 a7 a8 a9 a10 a11 : Nat → Int32} {a b pa pb : Nat} {KA KB : Nat → Nat} {NA NB : List Nat} (ha : a < 2) (hb : b < 2) (hA : nq_C a1 a2 a3 a4 a5 a pa KA) (hB : nq_C a1 a2 a3 a4 a5 b pb KB) (hNA : nq_R a6 a NA) (hNB : nq_R a6 b NB) (hm : a = b → nq_mk NB (nq_dl pb KB 7 0) = nq_mk NA (nq_dl pa KA 7 0))
    (H : ∀ d7 d8 d11 : Nat → Int32, nq_R d7 a (nq_mk NA (nq_dl pa KA 7 0)) → nq_R d7 b (nq_mk NB (nq_dl pb KB 7 0)) → (∀ j, j < 6 → d11 j = nI 0) → wX_search_51 post f1 f2 f3 f4 f5 a1 a2 a3 a4 a5 a6 d7 d8 a9 a10 d11) :
    ∀ r i (b11 : Nat → Int32), i + r = 6 → (∀ j, j < i → b11 j = nI 0) → wX_search_17 post (nI a) (nI b) f1 f2 f3 f4 f5 (r + 1) (nI i) a1 a2 a3 a4 a5 a6 a7 a8 a9 a10 b11 := by
  intro r
  induction r with
  | zero =>
    intro i b11 hi h0
    have h0' : ∀ j, j < 6 → b11 j = nI 0 := fun j hj => h0 j (by omega)
    refine br_t (nI_le (a := 6) (by omega) (by omega)) (nq_mrk ha hA hNA rfl (fun d7 d8 hR ho => ?_))
    refine pk_eq a b (fun z => H d7 d8 b11 hR ?_ h0') (fun z => nq_mrk hb hB hNB rfl (fun e7 e8 hR2 ho2 => H e7 e8 b11 ⟨hR.1, fun i hi => ?_⟩ hR2 h0'))
    · rw [hm z, ← z]
      exact hR
    · rw [ho2 (a * 6 + i) (by omega)]
      exact hR.2 i hi
  | succ r ih =>
    intro i b11 hi h0
    refine br_f (nI_ge (b := 6) (by omega) (by omega)) ⟨pk_in i 6 (by omega), nm_r (e' := upd b11 i (nI 0)) (by rw [nI_clamp (by omega)]; rfl) (nm_r (nI_1 i) (ih (i + 1) _ (by omega) (fun j hj => ?_)))⟩
    by_cases e : j = i
    · rw [e, pk_us]
    · rw [pk_un e]
      exact h0 j (by omega)
theorem nq_rs_eq (NA A NB B : List Nat) (pn pt : Nat) : nq_rs NA A NB B pn pt = nq_sr (nq_ok NA NB (nq_mk NA A) (nq_mk NB B) pn pt) (fun l k => nq_ag A B (fun i => nq_at l (Nat.sub k i)) k) 64 [] 0 0 0 [] := by
  unfold nq_rs
  rw [nq_fL_eq, nq_fL_eq]
/-- search -/
theorem nq_srch {post : St2 → Prop} {f1 f2 f3 f4 f5 : Int32} {a1 a2 a3 a4 a5 a6 a7 a8 a9 a10 a11 : Nat → Int32} {x y : Int32} {a b pa pb pn pt : Nat} {KA KB : Nat → Nat} {NA NB : List Nat} {res : List (List Nat)} (ha : a < 2) (hb : b < 2) (hA : nq_C a1 a2 a3 a4 a5 a pa KA) (hB : nq_C a1 a2 a3 a4 a5 b pb KB) (hNA : nq_R a6 a NA) (hNB : nq_R a6 b NB) (hm : a = b → nq_mk NB (nq_dl pb KB 7 0) = nq_mk NA (nq_dl pa KA 7 0))
    (hp1 : ∀ lv, lv < 6 → (nI lv = f3 ↔ lv = pn)) (hp2 : ∀ lv, lv < 6 → lv = pn → ∀ j, j < 6 → (nI j = f4 ↔ j = pt)) (hr : nq_rs NA (nq_dl pa KA 7 0) NB (nq_dl pb KB 7 0) pn pt = some res) (ex : x = nI a) (ey : y = nI b)
    (h : ∀ d7 d8 d9 d10 d11 : Nat → Int32, nq_L d10 d11 res → res.length ≤ 8192 → post ((nI a), (nI b), f3, f4, (nI res.length), a1, a2, a3, a4, a5, a6, d7, d8, d9, d10, d11)) : wpX_search post (f1, f2, f3, f4, f5, a1, a2, a3, a4, a5, a6, a7, a8, a9, a10, a11) x y := by
  subst ex ey
  unfold wpX_search
  rw [nq_rs_eq] at hr
  refine ⟨7, nq_s17 (a11 := a11) ha hb hA hB hNA hNB hm (fun d7 d8 d11 hR1 hR2 h0 => ?_) 6 0 a11 rfl (fun j hj => absurd hj (Nat.not_lt_zero _))⟩
  unfold wX_search_51
  refine nm_e ⟨65, ?_⟩
  exact nq_s66 ha hb hA hB hNA hNB hR1 hR2 rfl rfl hp1 hp2 (fun d9 d10 d11 k1 k2 => h d7 d8 d9 d10 d11 k1 k2) 64 [] 0 0 0 [] 0 _ a10 d11 hr (by decide) (by decide) (by decide) rfl (fun i hi => absurd hi (Nat.not_lt_zero _)) (fun _ => pk_us) (fun c hc => absurd hc (by omega)) ⟨fun z => absurd rfl z, fun i hi => ⟨h0 i hi, (by decide : 0 < 64)⟩⟩ (by decide) (Nat.le_refl 0)
end
section
/-! the methods that search -/
/-- both circuits: masks, devices, names -/
def nq_U (a1 a2 a3 a4 a5 a6 : Nat → Int32) (p0 : Nat) (K0 : Nat → Nat) (N0 : List Nat) (p1 : Nat) (K1 : Nat → Nat) (N1 : List Nat) : Prop :=
  nq_C a1 a2 a3 a4 a5 0 p0 K0 ∧ nq_C a1 a2 a3 a4 a5 1 p1 K1 ∧ nq_R a6 0 N0 ∧ nq_R a6 1 N1
theorem nq_cm {post : Int32 → St2 → Prop} {f1 f2 f3 f4 f5 : Int32} {a1 a2 a3 a4 a5 a6 a7 a8 a9 a10 a11 : Nat → Int32} {x y : Int32} {a b pa pb : Nat} {KA KB : Nat → Nat} {NA NB : List Nat} {res : List (List Nat)} (ha : a < 2) (hb : b < 2) (hA : nq_C a1 a2 a3 a4 a5 a pa KA) (hB : nq_C a1 a2 a3 a4 a5 b pb KB) (hNA : nq_R a6 a NA) (hNB : nq_R a6 b NB) (hm : a = b → nq_mk NB (nq_dl pb KB 7 0) = nq_mk NA (nq_dl pa KA 7 0))
    (hr : nq_rs NA (nq_dl pa KA 7 0) NB (nq_dl pb KB 7 0) 9 9 = some res) (ex : x = nI a) (ey : y = nI b)
    (h : ∀ (g1 g2 g3 g4 g5 : Int32) (d7 d8 d9 d10 d11 : Nat → Int32), nq_L d10 d11 res → res.length ≤ 8192 → post (nI res.length) (g1, g2, g3, g4, g5, a1, a2, a3, a4, a5, a6, d7, d8, d9, d10, d11)) : wpX_countMatches post (f1, f2, f3, f4, f5, a1, a2, a3, a4, a5, a6, a7, a8, a9, a10, a11) x y := by
  unfold wpX_countMatches
  exact nq_srch ha hb hA hB hNA hNB hm (fun lv hl => ⟨fun z => absurd z (nq_by6 lv hl).2, fun z => absurd z (by omega)⟩) (fun lv hl z => absurd z (by omega)) hr ex ey (fun d7 d8 d9 d10 d11 k1 k2 => h _ _ _ _ _ d7 d8 d9 d10 d11 k1 k2)
theorem nq_mat {post : Int32 → St2 → Prop} {f1 f2 f3 f4 f5 : Int32} {a1 a2 a3 a4 a5 a6 a7 a8 a9 a10 a11 : Nat → Int32} {p0 p1 : Nat} {K0 K1 : Nat → Nat} {N0 N1 : List Nat} {res : List (List Nat)} (hU : nq_U a1 a2 a3 a4 a5 a6 p0 K0 N0 p1 K1 N1) (hr : nq_rs N0 (nq_dl p0 K0 7 0) N1 (nq_dl p1 K1 7 0) 9 9 = some res)
    (h : ∀ (g1 g2 g3 g4 g5 : Int32) (d7 d8 d9 d10 d11 : Nat → Int32), nq_L d10 d11 res → post (nq_b (!res.isEmpty)) (g1, g2, g3, g4, g5, a1, a2, a3, a4, a5, a6, d7, d8, d9, d10, d11)) : wpX_match post (f1, f2, f3, f4, f5, a1, a2, a3, a4, a5, a6, a7, a8, a9, a10, a11) := by
  unfold wpX_match
  refine nq_cm (a := 0) (b := 1) (by decide) (by decide) hU.1 hU.2.1 hU.2.2.1 hU.2.2.2 (fun z => absurd z (by decide)) hr rfl rfl (fun g1 g2 g3 g4 g5 d7 d8 d9 d10 d11 k1 k2 => ?_)
  cases res with
  | nil => exact br_t (by decide) (h g1 g2 g3 g4 g5 d7 d8 d9 d10 d11 k1)
  | cons l r => exact br_f (nI_nle (Nat.succ_pos _) (Nat.lt_of_le_of_lt k2 (by decide))) (h g1 g2 g3 g4 g5 d7 d8 d9 d10 d11 k1)
theorem nq_mats {post : Int32 → St2 → Prop} {f1 f2 f3 f4 f5 : Int32} {a1 a2 a3 a4 a5 a6 a7 a8 a9 a10 a11 : Nat → Int32} {p0 p1 : Nat} {K0 K1 : Nat → Nat} {N0 N1 : List Nat} {res : List (List Nat)} (hU : nq_U a1 a2 a3 a4 a5 a6 p0 K0 N0 p1 K1 N1) (hr : nq_rs N0 (nq_dl p0 K0 7 0) N1 (nq_dl p1 K1 7 0) 9 9 = some res)
    (h : ∀ (g1 g2 g3 g4 g5 : Int32) (d7 d8 d9 d10 d11 : Nat → Int32), post (nI res.length) (g1, g2, g3, g4, g5, a1, a2, a3, a4, a5, a6, d7, d8, d9, d10, d11)) : wpX_matches post (f1, f2, f3, f4, f5, a1, a2, a3, a4, a5, a6, a7, a8, a9, a10, a11) := by
  unfold wpX_matches
  exact nq_cm (a := 0) (b := 1) (by decide) (by decide) hU.1 hU.2.1 hU.2.2.1 hU.2.2.2 (fun z => absurd z (by decide)) hr rfl rfl (fun g1 g2 g3 g4 g5 d7 d8 d9 d10 d11 _ _ => h g1 g2 g3 g4 g5 d7 d8 d9 d10 d11)
theorem nq_can {post : Int32 → St2 → Prop} {f1 f2 f3 f4 f5 : Int32} {a1 a2 a3 a4 a5 a6 a7 a8 a9 a10 a11 : Nat → Int32} {x : Int32} {i p0 p1 : Nat} {K0 K1 : Nat → Nat} {N0 N1 : List Nat} {res : List (List Nat)} (hU : nq_U a1 a2 a3 a4 a5 a6 p0 K0 N0 p1 K1 N1) (hr : nq_rs N0 (nq_dl p0 K0 7 0) N1 (nq_dl p1 K1 7 0) 9 9 = some res) (hi : i < 6) (hx : x = nI i)
    (h : ∀ (g1 g2 g3 g4 g5 : Int32) (d7 d8 d9 d10 d11 : Nat → Int32), post (nI (nq_po res i)) (g1, g2, g3, g4, g5, a1, a2, a3, a4, a5, a6, d7, d8, d9, d10, d11)) : wpX_candidates post (f1, f2, f3, f4, f5, a1, a2, a3, a4, a5, a6, a7, a8, a9, a10, a11) x := by
  subst hx
  unfold wpX_candidates
  refine nq_net hi rfl (br_f nq_k1 (nq_cm (a := 0) (b := 1) (by decide) (by decide) hU.1 hU.2.1 hU.2.2.1 hU.2.2.2 (fun z => absurd z (by decide)) hr rfl rfl (fun g1 g2 g3 g4 g5 d7 d8 d9 d10 d11 k1 _ => ⟨pk_in i 6 hi, ?_⟩)))
  rw [nI_clamp (by omega), (k1.2 i hi).1]
  exact h g1 g2 g3 g4 g5 d7 d8 d9 d10 d11
theorem nq_asg {post : Int32 → St2 → Prop} {f1 f2 f3 f4 f5 : Int32} {a1 a2 a3 a4 a5 a6 a7 a8 a9 a10 a11 : Nat → Int32} {x : Int32} {i p0 p1 : Nat} {K0 K1 : Nat → Nat} {N0 N1 : List Nat} {res : List (List Nat)} (hU : nq_U a1 a2 a3 a4 a5 a6 p0 K0 N0 p1 K1 N1) (hr : nq_rs N0 (nq_dl p0 K0 7 0) N1 (nq_dl p1 K1 7 0) 9 9 = some res) (hi : i < 6) (hx : x = nI i)
    (h0 : res = [] → ∀ (g1 g2 g3 g4 g5 : Int32) (d7 d8 d9 d10 d11 : Nat → Int32), post (-1) (g1, g2, g3, g4, g5, a1, a2, a3, a4, a5, a6, d7, d8, d9, d10, d11))
    (h1 : res ≠ [] → ∀ (g1 g2 g3 g4 g5 : Int32) (d7 d8 d9 d10 d11 : Nat → Int32), post (nI (nq_at (nq_fi res) (5 - i))) (g1, g2, g3, g4, g5, a1, a2, a3, a4, a5, a6, d7, d8, d9, d10, d11)) : wpX_assigned post (f1, f2, f3, f4, f5, a1, a2, a3, a4, a5, a6, a7, a8, a9, a10, a11) x := by
  subst hx
  unfold wpX_assigned
  refine nq_net hi rfl (br_f nq_k1 (nq_mat hU hr (fun g1 g2 g3 g4 g5 d7 d8 d9 d10 d11 k1 => ?_)))
  cases res with
  | nil => exact br_t rfl (h0 rfl g1 g2 g3 g4 g5 d7 d8 d9 d10 d11)
  | cons l r =>
    refine br_f nq_k1 ⟨pk_in i 6 hi, ?_⟩
    rw [nI_clamp (by omega), k1.1 (List.cons_ne_nil _ _) i hi]
    exact h1 (List.cons_ne_nil _ _) g1 g2 g3 g4 g5 d7 d8 d9 d10 d11
theorem nq_sym {post : Int32 → St2 → Prop} {f1 f2 f3 f4 f5 : Int32} {a1 a2 a3 a4 a5 a6 a7 a8 a9 a10 a11 : Nat → Int32} {x : Int32} {c p : Nat} {K : Nat → Nat} {N : List Nat} {res : List (List Nat)} (hc : c < 2) (hC : nq_C a1 a2 a3 a4 a5 c p K) (hN : nq_R a6 c N) (hr : nq_rs N (nq_dl p K 7 0) N (nq_dl p K 7 0) 9 9 = some res) (hx : x = nI c)
    (h : ∀ (g1 g2 g3 g4 g5 : Int32) (d7 d8 d9 d10 d11 : Nat → Int32), res.length ≤ 8192 → post (nI res.length) (g1, g2, g3, g4, g5, a1, a2, a3, a4, a5, a6, d7, d8, d9, d10, d11)) : wpX_symmetries post (f1, f2, f3, f4, f5, a1, a2, a3, a4, a5, a6, a7, a8, a9, a10, a11) x := by
  subst hx
  unfold wpX_symmetries
  exact nq_cir hc rfl (br_f nq_k1 (nq_cm hc hc hC hC hN hN (fun _ => rfl) hr rfl rfl (fun g1 g2 g3 g4 g5 d7 d8 d9 d10 d11 _ k2 => h g1 g2 g3 g4 g5 d7 d8 d9 d10 d11 k2)))
theorem nq_exc {post : Int32 → St2 → Prop} {f1 f2 f3 f4 f5 : Int32} {a1 a2 a3 a4 a5 a6 a7 a8 a9 a10 a11 : Nat → Int32} {x y z : Int32} {c i j p : Nat} {K : Nat → Nat} {N : List Nat} {res : List (List Nat)} (hc : c < 2) (hi : i < 6) (hj : j < 6) (hC : nq_C a1 a2 a3 a4 a5 c p K) (hN : nq_R a6 c N) (hr : nq_rs N (nq_dl p K 7 0) N (nq_dl p K 7 0) i j = some res) (hx : x = nI c) (hy : y = nI i) (hz : z = nI j)
    (h : ∀ (g1 g2 g3 g4 g5 : Int32) (d7 d8 d9 d10 d11 : Nat → Int32), post (nq_b (!res.isEmpty)) (g1, g2, g3, g4, g5, a1, a2, a3, a4, a5, a6, d7, d8, d9, d10, d11)) : wpX_exchangeable post (f1, f2, f3, f4, f5, a1, a2, a3, a4, a5, a6, a7, a8, a9, a10, a11) x y z := by
  subst hx hy hz
  unfold wpX_exchangeable
  refine nq_cir hc rfl (br_f nq_k1 (nq_net hi rfl (br_f nq_k1 (nq_net hj rfl (br_f nq_k1 ?_)))))
  refine nq_srch hc hc hC hC hN hN (fun _ => rfl) (fun lv hl => nI_eq (by omega) (by omega)) (fun lv hl _ q hq => nI_eq (by omega) (by omega)) hr rfl rfl (fun d7 d8 d9 d10 d11 k1 k2 => ?_)
  cases res with
  | nil => exact br_t (by decide) (h _ _ _ _ _ d7 d8 d9 d10 d11)
  | cons l r => exact br_f (nI_nle (Nat.succ_pos _) (Nat.lt_of_le_of_lt k2 (by decide))) (h _ _ _ _ _ d7 d8 d9 d10 d11)
/-! surplus -/
def nq_sa (p : Nat) (G : Nat → Bool) : Nat → Nat → Int32
  | 0, _ => -1
  | r + 1, d => if p / 2 ^ d % 2 = 0 then nq_sa p G r (d + 1) else cond (G d) (nI d) (nq_sa p G r (d + 1))
theorem nq_an7 : ∀ p, p < 128 → ∀ d, d < 7 → p / 2 ^ d % 2 ≠ 0 → (nI p &&& (((1 : Int32) <<< (nI d &&& 31)) ^^^ (-1))).toInt8.toInt32 = nI (p - 2 ^ d) := by decide +kernel
theorem nq_sb7 : ∀ p, p < 128 → ∀ d, d < 7 → p / 2 ^ d % 2 ≠ 0 → ∀ e, e < 7 → (p - 2 ^ d) / 2 ^ e % 2 ≠ 0 → p / 2 ^ e % 2 ≠ 0 := by decide +kernel
theorem nq_by7 : ∀ p, p < 128 → (nI p).toInt8.toInt32 = nI p := by decide +kernel
theorem nq_Usub {a1 a2 a3 a4 a5 a6 : Nat → Int32} {p0 p1 d : Nat} {K0 K1 : Nat → Nat} {N0 N1 : List Nat} (hU : nq_U a1 a2 a3 a4 a5 a6 p0 K0 N0 p1 K1 N1) (hd : d < 7) (hb : p0 / 2 ^ d % 2 ≠ 0) : nq_U (upd a1 0 (nI (p0 - 2 ^ d))) a2 a3 a4 a5 a6 (p0 - 2 ^ d) K0 N0 p1 K1 N1 := by
  obtain ⟨⟨h1, h2, h3⟩, ⟨h4, h5, h6⟩, h7, h8⟩ := hU
  refine ⟨⟨Nat.lt_of_le_of_lt (Nat.sub_le _ _) h1, pk_us, fun e he hbe => h3 e he (nq_sb7 p0 h1 d hd hb e he hbe)⟩, ⟨h4, ?_, h6⟩, h7, h8⟩
  rw [pk_un (by decide)]
  exact h5
theorem nq_su2 {post : Int32 → St2 → Prop} {a1 a2 a3 a4 a5 a6 : Nat → Int32} {p0 p1 : Nat} {K0 K1 : Nat → Nat} {N0 N1 : List Nat} {G : Nat → Bool} (hU : nq_U a1 a2 a3 a4 a5 a6 p0 K0 N0 p1 K1 N1)
    (hG : ∀ d, d < 7 → p0 / 2 ^ d % 2 ≠ 0 → ∃ res, nq_rs N0 (nq_dl (p0 - 2 ^ d) K0 7 0) N1 (nq_dl p1 K1 7 0) 9 9 = some res ∧ (!res.isEmpty) = G d) :
    ∀ r d (f1 f2 f3 f4 f5 : Int32) (a7 a8 a9 a10 a11 : Nat → Int32), d + r = 7 → (∀ (g1 g2 g3 g4 g5 : Int32) (d7 d8 d9 d10 d11 : Nat → Int32), post (nq_sa p0 G r d) (g1, g2, g3, g4, g5, a1, a2, a3, a4, a5, a6, d7, d8, d9, d10, d11)) → wX_surplus_2 post (r + 1) (nI d) f1 f2 f3 f4 f5 a1 a2 a3 a4 a5 a6 a7 a8 a9 a10 a11 := by
  intro r
  induction r with
  | zero =>
    intro d f1 f2 f3 f4 f5 a7 a8 a9 a10 a11 hd h
    exact br_t (nI_le (a := 7) (by omega) (by omega)) (h f1 f2 f3 f4 f5 a7 a8 a9 a10 a11)
  | succ r ih =>
    intro d f1 f2 f3 f4 f5 a7 a8 a9 a10 a11 hd h
    have hd7 : d < 7 := by omega
    unfold nq_sa at h
    refine br_f (nI_ge (b := 7) hd7 (by omega)) (nq_has (c := 0) (by decide) hd7 hU.1.1 hU.1.2.1 (fun hb => ?_) (fun hb => ?_) rfl rfl)
    · rw [if_neg hb] at h
      obtain ⟨res, hr, hg⟩ := hG d hd7 hb
      refine br_f nq_k1 (nm_r hU.1.2.1 (nm_r (e' := upd a1 0 (nI (p0 - 2 ^ d))) (by rw [nq_an7 p0 hU.1.1 d hd7 hb]) (nq_mat (nq_Usub hU hd7 hb) hr (fun g1 g2 g3 g4 g5 d7 d8 d9 d10 d11 _ => nm_r (e' := a1) ?_ ?_))))
      · funext j
        rw [vp_nar_byte, nq_by7 p0 hU.1.1]
        by_cases e : j = 0
        · rw [e, pk_us]
          exact hU.1.2.1.symm
        · rw [pk_un e, pk_un e]
      · rw [hg]
        cases w : G d with
        | true =>
          rw [w, cond_true] at h
          exact br_f nq_k1 (h g1 g2 g3 g4 g5 d7 d8 d9 d10 d11)
        | false =>
          rw [w, cond_false] at h
          exact br_t rfl (nm_r (nI_1 d) (ih (d + 1) g1 g2 g3 g4 g5 d7 d8 d9 d10 d11 (by omega) h))
    · rw [if_pos hb] at h
      exact br_t rfl (nm_r (nI_1 d) (ih (d + 1) f1 f2 f3 f4 f5 a7 a8 a9 a10 a11 (by omega) h))
theorem nq_sur {post : Int32 → St2 → Prop} {f1 f2 f3 f4 f5 : Int32} {a1 a2 a3 a4 a5 a6 a7 a8 a9 a10 a11 : Nat → Int32} {p0 p1 : Nat} {K0 K1 : Nat → Nat} {N0 N1 : List Nat} {G : Nat → Bool} (hU : nq_U a1 a2 a3 a4 a5 a6 p0 K0 N0 p1 K1 N1)
    (hG : ∀ d, d < 7 → p0 / 2 ^ d % 2 ≠ 0 → ∃ res, nq_rs N0 (nq_dl (p0 - 2 ^ d) K0 7 0) N1 (nq_dl p1 K1 7 0) 9 9 = some res ∧ (!res.isEmpty) = G d)
    (h : ∀ (g1 g2 g3 g4 g5 : Int32) (d7 d8 d9 d10 d11 : Nat → Int32), post (nq_sa p0 G 7 0) (g1, g2, g3, g4, g5, a1, a2, a3, a4, a5, a6, d7, d8, d9, d10, d11)) : wpX_surplus post (f1, f2, f3, f4, f5, a1, a2, a3, a4, a5, a6, a7, a8, a9, a10, a11) := by
  unfold wpX_surplus
  exact ⟨8, nq_su2 hU hG 7 0 f1 f2 f3 f4 f5 a7 a8 a9 a10 a11 rfl h⟩
/-! devices, degree -/
theorem nq_dev {post : Int32 → Prop} {f1 f2 f3 f4 f5 : Int32} {a1 a2 a3 a4 a5 a6 a7 a8 a9 a10 a11 : Nat → Int32} {x : Int32} {c p : Nat} {K : Nat → Nat} (hc : c < 2) (hC : nq_C a1 a2 a3 a4 a5 c p K) (hx : x = nI c) (h : post (nI p)) : wpX_devices post (f1, f2, f3, f4, f5, a1, a2, a3, a4, a5, a6, a7, a8, a9, a10, a11) x := by
  subst hx
  unfold wpX_devices
  refine nq_cir hc rfl (br_f nq_k1 ⟨pk_in c 2 hc, ?_⟩)
  rw [nI_clamp (by omega), hC.2.1]
  exact h
def nq_d1 (i m : Nat) : Nat := (if m % 3 ≠ 2 ∧ m / 3 % 6 = i then 1 else 0) + (if m / 18 % 6 = i then 1 else 0) + (if m / 108 = i then 1 else 0)
def nq_dg (i : Nat) : List Nat → Nat
  | [] => 0
  | m :: L => nq_d1 i m + nq_dg i L
theorem nq_d94 {post : Int32 → Prop} {J : Int32 → Int32 → Prop} {f1 f2 f3 f4 f5 : Int32} {a1 a2 a3 a4 a5 a6 a7 a8 a9 a10 a11 : Nat → Int32} {x1 : Int32} {q i d s acc y : Nat} (hq : q < 14) (hi : i < 6) (hy : y < 6) (h5 : a5 q = nI y) (h : J (nI (acc + s + (if y = i then 1 else 0))) (nI (d + 1))) : wX_degree_94 post J x1 (nI i) (nI d) (nI q) (nI s) (nI acc) f1 f2 f3 f4 f5 a1 a2 a3 a4 a5 a6 a7 a8 a9 a10 a11 := by
  unfold wX_degree_94
  refine nm_r (nI_add acc s) ⟨pk_in q 14 hq, pk_eq y i (fun z => ?_) (fun z => ?_) (by rw [nI_clamp (by omega)]; exact h5)⟩
  · rw [if_pos z] at h
    exact nm_r (nI_1 _) (nm_r (nI_1 d) h)
  · rw [if_neg z] at h
    exact nm_r (Int32.add_zero _) (nm_r (nI_1 d) h)
theorem nq_d75 {post : Int32 → Prop} {J : Int32 → Int32 → Prop} {f1 f2 f3 f4 f5 : Int32} {a1 a2 a3 a4 a5 a6 a7 a8 a9 a10 a11 : Nat → Int32} {x1 : Int32} {q i d s acc x y : Nat} (hq : q < 14) (hi : i < 6) (hx : x < 6) (hy : y < 6) (h4 : a4 q = nI x) (h5 : a5 q = nI y) (h : J (nI (acc + s + (if x = i then 1 else 0) + (if y = i then 1 else 0))) (nI (d + 1))) : wX_degree_75 post J x1 (nI i) (nI d) (nI q) (nI s) (nI acc) f1 f2 f3 f4 f5 a1 a2 a3 a4 a5 a6 a7 a8 a9 a10 a11 := by
  unfold wX_degree_75
  refine nm_r (nI_add acc s) ⟨pk_in q 14 hq, pk_eq x i (fun z => ?_) (fun z => ?_) (by rw [nI_clamp (by omega)]; exact h4)⟩
  · rw [if_pos z] at h
    exact nq_d94 (s := 1) hq hi hy h5 h
  · rw [if_neg z] at h
    exact nq_d94 (s := 0) hq hi hy h5 h
theorem nq_d21 {post : Int32 → Prop} {f1 f2 f3 f4 f5 : Int32} {a1 a2 a3 a4 a5 a6 a7 a8 a9 a10 a11 : Nat → Int32} {c p i : Nat} {K : Nat → Nat} (hc : c < 2) (hi : i < 6) (hC : nq_C a1 a2 a3 a4 a5 c p K) : ∀ r d acc, d + r = 7 → post (nI (acc + nq_dg i (nq_dl p K r d))) → wX_degree_21 post (nI c) (nI i) f1 f2 f3 f4 f5 a1 a2 a3 a4 a5 a6 a7 a8 a9 a10 a11 (r + 1) (nI acc) (nI d) := by
  intro r
  induction r with
  | zero =>
    intro d acc hd h
    exact br_t (nI_le (a := 7) (by omega) (by omega)) h
  | succ r ih =>
    intro d acc hd h
    have hd7 : d < 7 := by omega
    rw [nq_dl_s] at h
    refine br_f (nI_ge (b := 7) hd7 (by omega)) (nq_has hc hd7 hC.1 hC.2.1 (fun hb => ?_) (fun hb => ?_) rfl rfl)
    · obtain ⟨k1, k2, e2, e3, e4, e5⟩ := hC.2.2 d hd7 hb
      have hq : c * 7 + d < 14 := by omega
      have cl : (nI (c * 7 + d)).toNatClampNeg = c * 7 + d := nI_clamp (by omega)
      rw [nq_bf hb, cond_false, show nq_dg i (K d :: nq_dl p K r (d + 1)) = nq_d1 i (K d) + nq_dg i (nq_dl p K r (d + 1)) from rfl, ← Nat.add_assoc] at h
      have nx := ih (d + 1) (acc + nq_d1 i (K d)) (by omega) h
      have h108 : K d / 108 < 6 := by omega
      refine br_f nq_k1 (nm_r (nq_i7 c d) ⟨pk_in _ 14 hq, pk_eq (K d % 3) 2 (fun z => ?_) (fun z => ⟨pk_in _ 14 hq, pk_eq (K d / 3 % 6) i (fun z2 => ?_) (fun z2 => ?_) (by rw [cl]; exact e3)⟩) (by rw [cl]; exact e2)⟩)
      · refine nq_d75 (s := 0) hq hi (Nat.mod_lt _ (by decide)) h108 e4 e5 ?_
        unfold nq_d1 at nx
        rw [if_neg (fun w => w.1 z)] at nx
        rw [show ∀ u v w : Nat, u + 0 + v + w = u + (0 + v + w) from fun u v w => by omega]
        exact nx
      · refine nq_d75 (s := 1) hq hi (Nat.mod_lt _ (by decide)) h108 e4 e5 ?_
        unfold nq_d1 at nx
        rw [if_pos ⟨z, z2⟩] at nx
        rw [show ∀ u v w : Nat, u + 1 + v + w = u + (1 + v + w) from fun u v w => by omega]
        exact nx
      · refine nq_d75 (s := 0) hq hi (Nat.mod_lt _ (by decide)) h108 e4 e5 ?_
        unfold nq_d1 at nx
        rw [if_neg (fun w => z2 w.2)] at nx
        rw [show ∀ u v w : Nat, u + 0 + v + w = u + (0 + v + w) from fun u v w => by omega]
        exact nx
    · rw [nq_bt hb, cond_true] at h
      exact br_t rfl (nm_r (nI_1 d) (ih (d + 1) acc (by omega) h))
theorem nq_deg {post : Int32 → Prop} {f1 f2 f3 f4 f5 : Int32} {a1 a2 a3 a4 a5 a6 a7 a8 a9 a10 a11 : Nat → Int32} {x y : Int32} {c p i : Nat} {K : Nat → Nat} (hc : c < 2) (hi : i < 6) (hC : nq_C a1 a2 a3 a4 a5 c p K) (hx : x = nI c) (hy : y = nI i) (h : post (nI (nq_dg i (nq_dl p K 7 0)))) : wpX_degree post (f1, f2, f3, f4, f5, a1, a2, a3, a4, a5, a6, a7, a8, a9, a10, a11) x y := by
  subst hx hy
  unfold wpX_degree
  exact nq_cir hc rfl (br_f nq_k1 (nq_net hi rfl (br_f nq_k1 ⟨8, nq_d21 hc hi hC 7 0 0 rfl (by rw [Nat.zero_add]; exact h)⟩)))
/-! name -/
theorem nq_nam {post : Int32 → St2 → Prop} {f1 f2 f3 f4 f5 : Int32} {a1 a2 a3 a4 a5 a6 a7 a8 a9 a10 a11 : Nat → Int32} {x y : Int32} {c i : Nat} (hc : c < 2) (hi : i < 6) (hx : x = nI c) (hy : y = nI i) (h : post 1 (f1, f2, f3, f4, f5, a1, a2, a3, a4, a5, (upd a6 (c * 6 + i) (nI 2)), a7, a8, a9, a10, a11)) : wpX_name post (f1, f2, f3, f4, f5, a1, a2, a3, a4, a5, a6, a7, a8, a9, a10, a11) x y 2 := by
  subst hx hy
  unfold wpX_name
  refine nq_cir hc rfl (br_f nq_k1 (nq_net hi rfl (br_f nq_k1 (br_f (by decide) (br_t (by decide) ⟨pk_in (c * 6 + i) 12 (by omega) (nq_i6 c i), nm_r ?_ h⟩)))))
  rw [nq_i6, nI_clamp (by omega)]
  rfl
theorem nq_Nj_at : ∀ i, i < 6 → ∀ j, j < 6 → nq_at (nq_Nj i) j = (if j = i then 2 else 4294967295) ∧ nq_at nq_N j = 4294967295 := by decide +kernel
theorem nq_RN {a6 : Nat → Int32} {c i : Nat} (hi : i < 6) (h : nq_R a6 c nq_N) : nq_R (upd a6 (c * 6 + i) (nI 2)) c (nq_Nj i) := by
  refine ⟨rfl, fun j hj => ?_⟩
  have e := nq_Nj_at i hi j hj
  have h2 := (h.2 j hj).1
  rw [e.2] at h2
  rw [e.1]
  by_cases z : j = i
  · rw [if_pos z, z, pk_us]
    exact ⟨rfl, by decide⟩
  · rw [if_neg z, pk_un (by omega), h2]
    exact ⟨rfl, by decide⟩
theorem nq_RO {a6 : Nat → Int32} {c e i : Nat} {N : List Nat} {v : Int32} (hi : i < 6) (hce : c ≠ e) (h : nq_R a6 e N) : nq_R (upd a6 (c * 6 + i) v) e N :=
  ⟨h.1, fun j hj => by rw [pk_un (by omega)]; exact h.2 j hj⟩
/-! add -/
theorem nq_or7 : ∀ k, k < 7 → (nI (2 ^ k - 1) ||| ((1 : Int32) <<< (nI k &&& 31))).toInt8.toInt32 = nI (2 ^ (k + 1) - 1) ∧ (2 ^ k - 1) / 2 ^ k % 2 = 0 ∧ 2 ^ k - 1 < 128 ∧ ∀ d, d < k → (2 ^ k - 1) / 2 ^ d % 2 ≠ 0 := by decide +kernel
theorem nq_ad163 {post : Int32 → St2 → Prop} {f1 f2 f3 f4 f5 : Int32} {a1 a2 a3 a4 a5 a6 a7 a8 a9 a10 a11 : Nat → Int32} {c k x y z : Nat} (hc : c < 2) (hk : k < 7) (hx : x < 6) (hy : y < 6) (hz : z < 6)
    (h : post (nI k) (f1, f2, f3, f4, f5, a1, a2, a3, (upd a4 (c * 7 + k) (nI z)), (upd a5 (c * 7 + k) (nI (cond (Nat.ble y x) x y))), a6, a7, a8, a9, a10, a11)) : wX_add_163 post (nI c) (nI x) (nI y) (nI k) (nI z) (nI c * 7 + nI k) f1 f2 f3 f4 f5 a1 a2 a3 a4 a5 a6 a7 a8 a9 a10 a11 := by
  unfold wX_add_163
  rw [nq_i7, nI_clamp (show c * 7 + k < 2 ^ 31 by omega), (nq_by6 x hx).1, (nq_by6 y hy).1, (nq_by6 z hz).1]
  refine ⟨pk_in (c * 7 + k) 14 (by omega), nm_e (pk_le y x (fun w => ⟨pk_in (c * 7 + k) 14 (by omega), nm_e ?_⟩) (fun w => ⟨pk_in (c * 7 + k) 14 (by omega), nm_e ?_⟩))⟩
  · rw [nq_lt2 w, cond_true] at h
    exact h
  · rw [nq_lf2 w, cond_false] at h
    exact h
theorem nq_ad136 {post : Int32 → St2 → Prop} {f1 f2 f3 f4 f5 : Int32} {a1 a2 a3 a4 a5 a6 a7 a8 a9 a10 a11 : Nat → Int32} {c k x y g : Nat} (hc : c < 2) (hk : k < 7) (hx : x < 6) (hy : y < 6) (hg : g < 6)
    (h : post (nI k) (f1, f2, f3, f4, f5, a1, a2, (upd a3 (c * 7 + k) (nI g)), (upd a4 (c * 7 + k) (nI (cond (Nat.ble y x) y x))), (upd a5 (c * 7 + k) (nI (cond (Nat.ble y x) x y))), a6, a7, a8, a9, a10, a11)) : wX_add_136 post (nI c) (nI x) (nI y) (nI k) (nI g) (nI c * 7 + nI k) f1 f2 f3 f4 f5 a1 a2 a3 a4 a5 a6 a7 a8 a9 a10 a11 := by
  unfold wX_add_136
  refine ⟨pk_in (c * 7 + k) 14 (by omega) (nq_i7 c k), nm_r (e' := upd a3 (c * 7 + k) (nI g)) (by rw [nq_i7, nI_clamp (by omega), (nq_by6 g hg).1]) (pk_le y x (fun w => nq_ad163 hc hk hx hy hy ?_) (fun w => nq_ad163 hc hk hx hy hx ?_))⟩
  · rw [nq_lt2 w, cond_true, cond_true] at h
    rw [nq_lt2 w, cond_true]
    exact h
  · rw [nq_lf2 w, cond_false, cond_false] at h
    rw [nq_lf2 w, cond_false]
    exact h
theorem nq_ad65 {post : Int32 → St2 → Prop} {f1 f2 f3 f4 f5 : Int32} {a1 a2 a3 a4 a5 a6 a7 a8 a9 a10 a11 : Nat → Int32} {c k t g x y : Nat} (hc : c < 2) (hk : k < 7) (ht : t < 3) (hg : g < 6) (hx : x < 6) (hy : y < 6) (h1 : a1 c = nI (2 ^ k - 1))
    (h : post (nI k) (f1, f2, f3, f4, f5, (upd a1 c (nI (2 ^ (k + 1) - 1))), (upd a2 (c * 7 + k) (nI t)), (upd a3 (c * 7 + k) (nI (cond (Nat.beq t 2) 0 g))), (upd a4 (c * 7 + k) (nI (cond (Nat.ble y x) y x))), (upd a5 (c * 7 + k) (nI (cond (Nat.ble y x) x y))), a6, a7, a8, a9, a10, a11)) :
    ∀ r d, d + r = k → wX_add_65 post (nI c) (nI t) (nI g) (nI x) (nI y) f1 f2 f3 f4 f5 a1 a2 a3 a4 a5 a6 a7 a8 a9 a10 a11 (r + 1) (nI d) := by
  intro r
  induction r with
  | zero =>
    intro d hd
    have e : d = k := hd
    subst e
    obtain ⟨q1, q2, q3, q4⟩ := nq_or7 d hk
    refine br_f (nI_ge (b := 7) hk (by omega)) (nq_has hc hk q3 h1 (fun w => absurd q2 w) (fun _ => br_t rfl ⟨pk_in c 2 hc, pk_in c 2 hc, nm_r (e' := upd a1 c (nI (2 ^ (d + 1) - 1))) (by rw [nI_clamp (by omega), h1, q1]) ⟨pk_in (c * 7 + d) 14 (by omega) (nq_i7 c d), nm_r (e' := upd a2 (c * 7 + d) (nI t)) (by rw [nq_i7, nI_clamp (by omega), (nq_by6 t (by omega)).1]) (pk_eq t 2 (fun w => nq_ad136 (g := 0) hc hk hx hy (by decide) ?_) (fun w => nq_ad136 hc hk hx hy hg ?_))⟩⟩) rfl rfl)
    · rw [nq_bt w, cond_true] at h
      exact h
    · rw [nq_bf w, cond_false] at h
      exact h
  | succ r ih =>
    intro d hd
    obtain ⟨q1, q2, q3, q4⟩ := nq_or7 k hk
    exact br_f (nI_ge (b := 7) (by omega) (by omega)) (nq_has hc (by omega) q3 h1 (fun _ => br_f nq_k1 (nm_r (nI_1 d) (ih (d + 1) (by omega)))) (fun w => absurd w (q4 d (by omega))) rfl rfl)
theorem nq_addm {post : Int32 → St2 → Prop} {f1 f2 f3 f4 f5 : Int32} {a1 a2 a3 a4 a5 a6 a7 a8 a9 a10 a11 : Nat → Int32} {x0 x1 x2 : Int32} {c k t g x y : Nat} (hc : c < 2) (hk : k < 7) (ht : t < 3) (hg : g < 6) (hx : x < 6) (hy : y < 6) (h1 : a1 c = nI (2 ^ k - 1)) (e0 : x0 = nI c) (e1 : x1 = nI t) (e2 : x2 &&& 7 = nI g) (e3 : (x2 >>> ((3 : Int32) &&& 31)) &&& 7 = nI x) (e4 : x2 >>> ((6 : Int32) &&& 31) = nI y)
    (h : post (nI k) (f1, f2, f3, f4, f5, (upd a1 c (nI (2 ^ (k + 1) - 1))), (upd a2 (c * 7 + k) (nI t)), (upd a3 (c * 7 + k) (nI (cond (Nat.beq t 2) 0 g))), (upd a4 (c * 7 + k) (nI (cond (Nat.ble y x) y x))), (upd a5 (c * 7 + k) (nI (cond (Nat.ble y x) x y))), a6, a7, a8, a9, a10, a11)) : wpX_add post (f1, f2, f3, f4, f5, a1, a2, a3, a4, a5, a6, a7, a8, a9, a10, a11) x0 x1 x2 := by
  subst e0 e1
  unfold wpX_add
  exact nm_r e2 (nm_r e3 (nm_r e4 (nq_cir hc rfl (br_f nq_k1 (br_f (nI_pos (by omega)) (br_f (nI_ge (b := 3) ht (by omega)) (nq_net hg rfl (br_f nq_k1 (nq_net hx rfl (br_f nq_k1 (nq_net hy rfl (br_f nq_k1 ⟨k + 1, nq_ad65 hc hk ht hg hx hy h1 h k 0 (by omega)⟩))))))))))))
/-- what add does to the pictures -/
theorem nq_mk7 : ∀ k, k < 7 → 2 ^ (k + 1) - 1 < 128 ∧ ∀ d, d < 7 → (2 ^ (k + 1) - 1) / 2 ^ d % 2 ≠ 0 → d = k ∨ (d < k ∧ (2 ^ k - 1) / 2 ^ d % 2 ≠ 0) := by decide +kernel
theorem nq_Cadd {a1 a2 a3 a4 a5 : Nat → Int32} {c k t g x y : Nat} {K : Nat → Nat} (hk : k < 7) (ht : t < 3) (hg : g < 6) (hx : x < 6) (hy : y < 6) (h : nq_C a1 a2 a3 a4 a5 c (2 ^ k - 1) K) (hK : K k = nq_cc t g x y) :
    nq_C (upd a1 c (nI (2 ^ (k + 1) - 1))) (upd a2 (c * 7 + k) (nI t)) (upd a3 (c * 7 + k) (nI (cond (Nat.beq t 2) 0 g))) (upd a4 (c * 7 + k) (nI (cond (Nat.ble y x) y x))) (upd a5 (c * 7 + k) (nI (cond (Nat.ble y x) x y))) c (2 ^ (k + 1) - 1) K := by
  obtain ⟨q1, q2⟩ := nq_mk7 k hk
  refine ⟨q1, pk_us, fun d hd hb => ?_⟩
  rcases q2 d hd hb with e | ⟨e1, e2⟩
  · subst e
    rw [pk_us, pk_us, pk_us, pk_us]
    have hg2 : cond (Nat.beq t 2) 0 g < 6 ∧ (t = 2 → cond (Nat.beq t 2) 0 g = 0) := by
      by_cases w : t = 2
      · rw [nq_bt w, cond_true]
        exact ⟨by decide, fun _ => rfl⟩
      · rw [nq_bf w, cond_false]
        exact ⟨hg, fun z => absurd z w⟩
    have key : ∀ lo hi, lo < 6 → hi < 6 → K d = nq_cd t (cond (Nat.beq t 2) 0 g) lo hi → K d < 648 ∧ (K d % 3 = 2 → K d / 3 % 6 = 0) ∧ nI t = nI (K d % 3) ∧ nI (cond (Nat.beq t 2) 0 g) = nI (K d / 3 % 6) ∧ nI lo = nI (K d / 18 % 6) ∧ nI hi = nI (K d / 108) := by
      intro lo hi hl hh e
      obtain ⟨z1, z2, z3, z4⟩ := (nq_cdI ht hg2.1 hl).mp e
      refine ⟨?_, fun w => ?_, congrArg nI z1.symm, congrArg nI z2.symm, congrArg nI z3.symm, congrArg nI z4.symm⟩
      · omega
      · rw [z2]
        exact hg2.2 (z1.symm.trans w)
    unfold nq_cc at hK
    rcases Nat.lt_or_ge x y with w | w
    · rw [nq_lf2 w, cond_false] at hK
      rw [nq_lf2 w, cond_false, cond_false]
      exact key x y hx hy hK
    · rw [nq_lt2 w, cond_true] at hK
      rw [nq_lt2 w, cond_true, cond_true]
      exact key y x hy hx hK
  · rw [pk_un (by omega), pk_un (by omega), pk_un (by omega), pk_un (by omega)]
    exact h.2.2 d hd e2
theorem nq_Coth {a1 a2 a3 a4 a5 : Nat → Int32} {c e k p : Nat} {K : Nat → Nat} {v1 v2 v3 v4 v5 : Int32} (hk : k < 7) (hce : c ≠ e) (h : nq_C a1 a2 a3 a4 a5 e p K) : nq_C (upd a1 c v1) (upd a2 (c * 7 + k) v2) (upd a3 (c * 7 + k) v3) (upd a4 (c * 7 + k) v4) (upd a5 (c * 7 + k) v5) e p K := by
  refine ⟨h.1, ?_, fun d hd hb => ?_⟩
  · rw [pk_un (fun z => hce z.symm)]
    exact h.2.1
  · rw [pk_un (by omega), pk_un (by omega), pk_un (by omega), pk_un (by omega)]
    exact h.2.2 d hd hb
end
section
/-! out of the tables -/
theorem nq_is_e {NA A NB B : List Nat} {pn pt : Nat} {F : List (List Nat) → Bool} (h : nq_is NA A NB B pn pt F = true) : ∃ res, nq_rs NA A NB B pn pt = some res ∧ F res = true := by
  unfold nq_is at h
  rw [nq_fL_eq, nq_fL_eq] at h
  cases e : nq_rs NA A NB B pn pt with
  | none =>
    rw [e] at h
    exact absurd (show false = true from h) (by decide)
  | some res =>
    rw [e] at h
    exact ⟨res, rfl, h⟩
theorem nq_be_e {b : Bool} {lf : List (List Nat)} (h : nq_be b lf = true) : (!lf.isEmpty) = b := by
  cases b with
  | true => exact h
  | false =>
    have h2 : lf.isEmpty = true := h
    rw [h2]
    rfl
theorem nq_no_e {lf : List (List Nat)} (h : nq_no lf = true) : lf = [] := by
  cases lf with
  | nil => rfl
  | cons l r => exact absurd (show false = true from h) (by decide)
theorem nq_si_e {r : Nat} {lf : List (List Nat)} (h : nq_si r lf = true) : lf.length = cond (nq_ev r) 2 1 := Nat.eq_of_beq_eq_true h
theorem nq_F1_e {r d : Nat} {lf : List (List Nat)} (h : nq_F1 r d lf = true) : lf.length = cond (nq_ev r) 2 1 ∧ nq_po lf 2 = 2 ^ ((2 + d) % 6) ∧ nq_po lf 0 = Nat.lor (2 ^ d) (cond (nq_ev r) (2 ^ ((4 + d) % 6)) 0) ∧ nq_at (nq_fi lf) 5 = cond (Nat.blt d ((4 + d) % 6) || !nq_ev r) d ((4 + d) % 6) ∧ nq_at (nq_fi lf) 0 = (5 + d) % 6 := by
  unfold nq_F1 at h
  rw [Bool.and_eq_true, Bool.and_eq_true, Bool.and_eq_true, Bool.and_eq_true] at h
  exact ⟨Nat.eq_of_beq_eq_true h.1, Nat.eq_of_beq_eq_true h.2.1, Nat.eq_of_beq_eq_true h.2.2.1, Nat.eq_of_beq_eq_true h.2.2.2.1, Nat.eq_of_beq_eq_true h.2.2.2.2⟩
theorem nq_b15 : ∀ d, d < 7 → (15 : Nat) / 2 ^ d % 2 ≠ 0 → d < 4 := by decide +kernel
theorem nq_b31 : ∀ d, d < 7 → (31 : Nat) / 2 ^ d % 2 ≠ 0 → d < 5 := by decide +kernel
theorem nq_CK {a1 a2 a3 a4 a5 : Nat → Int32} {c : Nat} {K K' : Nat → Nat} (h : nq_C a1 a2 a3 a4 a5 c 15 K) (e : ∀ k, k < 4 → K k = K' k) : nq_C a1 a2 a3 a4 a5 c 15 K' :=
  ⟨h.1, h.2.1, fun d hd hb => by
    rw [← e d (nq_b15 d hd hb)]
    exact h.2.2 d hd hb⟩
theorem nq_K14 {r d h k : Nat} (hh : 4 ≤ h) (hk : k < 4) : nq_K1 r d h k = nq_K1 r d 4 k := by
  unfold nq_K1
  rw [nq_bf (show h ≠ k by omega), nq_bf (show 4 ≠ k by omega)]
theorem nq_dgt : ∀ r, r < 16 → nq_dg 1 (nq_A 15 r) = 2 := by decide +kernel
def nq_on (r : Nat) : Nat → Nat → Nat
  | 0, _ => 0
  | m + 1, k => r / 2 ^ k % 2 + nq_on r m (k + 1)
theorem nq_dgo : ∀ r, r < 16 → nq_dg 5 (nq_A 15 r) = nq_on r 4 0 := by decide +kernel
theorem nq_on4 {post : Int32 → Prop} {r : Nat} (hr : r < 16) : ∀ m k acc, k + m = 4 → post (nI (acc + nq_on r m k)) → wL_ones_4 post (nI r) (m + 1) (nI acc) (nI k) := by
  intro m
  induction m with
  | zero =>
    intro k acc hk h
    exact br_t (nI_le (a := 4) (by omega) (by omega)) h
  | succ m ih =>
    intro k acc hk h
    rw [show nq_on r (m + 1) k = r / 2 ^ k % 2 + nq_on r m (k + 1) from rfl, ← Nat.add_assoc] at h
    exact br_f (nI_ge (b := 4) (by omega) (by omega)) (nm_r (e' := nI (acc + r / 2 ^ k % 2)) (by rw [nq_bit6 r (by omega) k (by omega), nI_add]) (nm_r (nI_1 k) (ih (k + 1) _ (by omega) h)))
theorem nq_ones {post : Int32 → Prop} {r : Nat} (hr : r < 16) (h : post (nI (nq_on r 4 0))) : wpL_ones post () (nI r) := by
  unfold wpL_ones
  exact ⟨5, nq_on4 hr 4 0 0 rfl (by rw [Nat.zero_add]; exact h)⟩
/-! numbers of the law -/
theorem nq_r6 : ∀ d, d < 6 → (4 + nI d) - (4 + nI d) / 6 * 6 = nI ((4 + d) % 6) ∧ (5 + nI d) - (5 + nI d) / 6 * 6 = nI ((5 + d) % 6) ∧ (2 + nI d) - (2 + nI d) / 6 * 6 = nI ((2 + d) % 6) := by decide +kernel
theorem nq_sh6 : ∀ d, d < 6 → (1 : Int32) <<< (nI d &&& 31) = nI (2 ^ d) := by decide +kernel
theorem nq_lr6 : ∀ d, d < 6 → ∀ e, e < 6 → nI (2 ^ d) ||| nI (2 ^ e) = nI (Nat.lor (2 ^ d) (2 ^ e)) ∧ nI (2 ^ d) ||| 0 = nI (Nat.lor (2 ^ d) 0) := by decide +kernel
theorem nq_n9 : (9 : Int32) &&& 7 = nI 1 ∧ ((9 : Int32) >>> ((3 : Int32) &&& 31)) &&& 7 = nI 1 ∧ (9 : Int32) >>> ((6 : Int32) &&& 31) = nI 0 := by decide +kernel
theorem nq_par : ∀ r, r < 16 → nI r &&& 1 = nI (r % 2) := by decide +kernel
theorem nq_sut : ∀ r, r < 16 → nq_sa 31 (nq_su r) 7 0 = cond (nq_ev r) (cond (Nat.beq (r % 2) 0) 0 4) (-1) := by decide +kernel
theorem nq_su0 : nq_sa 15 (fun _ => false) 7 0 = -1 := by decide +kernel
theorem nq_b_eq {a b : Bool} {A B : Prop} (h : a = b) (hA : A) : (nq_b a = nq_b b → A) ∧ (¬ nq_b a = nq_b b → B) := br_t (by rw [h]) hA
/-! the law's end -/
theorem nq_l646 {post : Int32 → St0 → Prop} {mc ms kc ks : Nat} {x y : Int32} (h : y = x) (hp : post 1 ()) : wL_lawOf_646 post mc ms x y kc ks := by
  unfold wL_lawOf_646
  exact br_t h hp
theorem nq_l533 {post : Int32 → St0 → Prop} {mc ms kc ks : Nat} {f1 f2 f3 f4 f5 : Int32} {a1 a2 a3 a4 a5 a6 a7 a8 a9 a10 a11 : Nat → Int32} {r d : Nat} (hr : r < 16) (hd : d < 6) (hU : nq_U a1 a2 a3 a4 a5 a6 15 (nq_K0 r) nq_N 15 (nq_K1 r d 4) nq_N) (hp : post 1 ()) : wL_lawOf_533 post mc ms (nI d) (nI r) (nq_b (nq_ev r)) 1 kc ks f1 f2 f3 f4 f5 a1 a2 a3 a4 a5 a6 a7 a8 a9 a10 a11 := by
  unfold wL_lawOf_533
  obtain ⟨s6, h6, k6⟩ := nq_is_e (nq_t6 r hr d hd)
  obtain ⟨s7, h7, k7⟩ := nq_is_e (nq_t7 r hr d hd)
  obtain ⟨s8, h8, k8⟩ := nq_is_e (nq_t8 r hr d hd)
  have e6 := nq_no_e k6
  have e7 := nq_be_e k7
  have e8 := nq_no_e k8
  subst e6 e8
  refine nq_nam (c := 0) (i := 0) (by decide) (by decide) rfl rfl ?_
  have hU1 : nq_U a1 a2 a3 a4 a5 (upd a6 (0 * 6 + 0) (nI 2)) 15 (nq_K0 r) (nq_Nj 0) 15 (nq_K1 r d 4) nq_N := ⟨hU.1, hU.2.1, nq_RN (by decide) hU.2.2.1, nq_RO (by decide) (by decide) hU.2.2.2⟩
  refine nq_mat hU1 h6 (fun g1 g2 g3 g4 g5 d7 d8 d9 d10 d11 _ => ⟨by decide, nq_nam (c := 1) (i := (4 + d) % 6) (by decide) (Nat.mod_lt _ (by decide)) rfl (nq_r6 d hd).1 ?_⟩)
  have hU2 : nq_U a1 a2 a3 a4 a5 (upd (upd a6 (0 * 6 + 0) (nI 2)) (1 * 6 + (4 + d) % 6) (nI 2)) 15 (nq_K0 r) (nq_Nj 0) 15 (nq_K1 r d 4) (nq_Nj ((4 + d) % 6)) := ⟨hU1.1, hU1.2.1, nq_RO (Nat.mod_lt _ (by decide)) (by decide) hU1.2.2.1, nq_RN (Nat.mod_lt _ (by decide)) hU1.2.2.2⟩
  refine nq_mat hU2 h7 (fun g1 g2 g3 g4 g5 d7 d8 d9 d10 d11 _ => nq_addm (c := 0) (k := 4) (t := 2) (g := 1) (x := 1) (y := 0) (by decide) (by decide) (by decide) (by decide) (by decide) (by decide) hU2.1.2.1 rfl rfl nq_n9.1 nq_n9.2.1 nq_n9.2.2 ?_)
  have hU3 := (⟨nq_Cadd (k := 4) (t := 2) (g := 1) (x := 1) (y := 0) (by decide) (by decide) (by decide) (by decide) (by decide) hU2.1 rfl, nq_Coth (by decide) (by decide) hU2.2.1, hU2.2.2⟩ : nq_U _ _ _ _ _ _ 31 (nq_K0 r) (nq_Nj 0) 15 (nq_K1 r d 4) (nq_Nj ((4 + d) % 6)))
  refine br_f nq_k1 (br_f nq_k1 (br_t rfl (br_f nq_k1 (nq_b_eq e7 (br_t rfl ?_)))))
  refine nq_mat hU3 h8 (fun g1 g2 g3 g4 g5 d7 d8 d9 d10 d11 _ => br_t rfl ?_)
  refine nq_sur (G := nq_su r) hU3 (fun i hi hb => ?_) (fun g1 g2 g3 g4 g5 d7 d8 d9 d10 d11 => ?_)
  · obtain ⟨s9, h9, k9⟩ := nq_is_e (nq_t9 r hr d hd i (nq_b31 i hi hb))
    exact ⟨s9, h9, nq_be_e k9⟩
  · rw [nq_sut r hr]
    cases nq_ev r with
    | false => exact br_t rfl (nq_l646 rfl hp)
    | true =>
      refine br_f nq_k1 (pk_eq (r % 2) 0 (fun z => nq_l646 ?_ hp) (fun z => nq_l646 ?_ hp) (nq_par r hr) rfl (nq_m22 _) (by decide))
      · rw [nq_bt z]
        rfl
      · rw [nq_bf z]
        rfl
theorem nq_l491 {post : Int32 → St0 → Prop} {mc ms kc ks : Nat} {f1 f2 f3 f4 f5 : Int32} {a1 a2 a3 a4 a5 a6 a7 a8 a9 a10 a11 : Nat → Int32} {x9 z0 z1 z2 : Int32} {r d : Nat} (hr : r < 16) (hd : d < 6) (hU : nq_U a1 a2 a3 a4 a5 a6 15 (nq_K0 r) nq_N 15 (nq_K1 r d 4) nq_N) (hp : post 1 ()) (hz : z2 = (z1 ||| z0)) (h9 : x9 = nI (cond (Nat.blt d ((4 + d) % 6) || !nq_ev r) d ((4 + d) % 6))) : wL_lawOf_491 post mc ms (nI d) (nI r) (nq_b (nq_ev r)) x9 z0 z1 z2 kc ks f1 f2 f3 f4 f5 a1 a2 a3 a4 a5 a6 a7 a8 a9 a10 a11 := by
  unfold wL_lawOf_491
  obtain ⟨s1, h1, k1⟩ := nq_is_e (nq_t1 r hr d hd)
  obtain ⟨q1, q2, q3, q4, q5⟩ := nq_F1_e k1
  have ne : s1 ≠ [] := fun z => by
    rw [z] at q1
    cases w : nq_ev r with
    | true => rw [w] at q1; exact absurd q1 (by decide)
    | false => rw [w] at q1; exact absurd q1 (by decide)
  refine br_t hz (nq_asg (i := 0) hU h1 (by decide) rfl (fun z => absurd z ne) (fun _ g1 g2 g3 g4 g5 d7 d8 d9 d10 d11 => br_t (by rw [h9]; exact congrArg nI q4) (nq_asg (i := 5) hU h1 (by decide) rfl (fun z => absurd z ne) (fun _ g1 g2 g3 g4 g5 d7 d8 d9 d10 d11 => ⟨by decide, br_t (by rw [(nq_r6 d hd).2.1]; exact congrArg nI q5) (nq_sur (G := fun _ => false) hU (fun i hi hb => ?_) (fun g1 g2 g3 g4 g5 d7 d8 d9 d10 d11 => br_t nq_su0 (nq_l533 hr hd hU hp)))⟩))))
  obtain ⟨s5, h5, k5⟩ := nq_is_e (nq_t5 r hr d hd i (nq_b15 i hi hb))
  have e5 := nq_no_e k5
  subst e5
  exact ⟨[], h5, rfl⟩
theorem nq_l444 {post : Int32 → St0 → Prop} {mc ms kc ks : Nat} {f1 f2 f3 f4 f5 : Int32} {a1 a2 a3 a4 a5 a6 a7 a8 a9 a10 a11 : Nat → Int32} {x9 z : Int32} {r d : Nat} (hr : r < 16) (hd : d < 6) (hU : nq_U a1 a2 a3 a4 a5 a6 15 (nq_K0 r) nq_N 15 (nq_K1 r d 4) nq_N) (hp : post 1 ()) (h9 : x9 = nI (cond (Nat.blt d ((4 + d) % 6) || !nq_ev r) d ((4 + d) % 6))) : wL_lawOf_444 post mc ms (nI d) (nI r) (nq_b (nq_ev r)) x9 z z kc ks f1 f2 f3 f4 f5 a1 a2 a3 a4 a5 a6 a7 a8 a9 a10 a11 := by
  unfold wL_lawOf_444
  obtain ⟨s1, h1, k1⟩ := nq_is_e (nq_t1 r hr d hd)
  obtain ⟨q1, q2, q3, q4, q5⟩ := nq_F1_e k1
  refine br_t rfl (nq_can (i := 2) hU h1 (by decide) rfl (fun g1 g2 g3 g4 g5 d7 d8 d9 d10 d11 => ⟨by decide, br_t (by rw [(nq_r6 d hd).2.2, nq_sh6 _ (Nat.mod_lt _ (by decide)), q2]) (nq_can (i := 0) hU h1 (by decide) rfl (fun g1 g2 g3 g4 g5 d7 d8 d9 d10 d11 => ?_))⟩))
  rw [q3]
  have key : ∀ z0 : Int32, (cond (nq_ev r) (nI (2 ^ ((4 + d) % 6))) 0) = z0 → wL_lawOf_491 post mc ms (nI d) (nI r) (nq_b (nq_ev r)) x9 z0 ((1 : Int32) <<< (nI d &&& 31)) (nI (Nat.lor (2 ^ d) (cond (nq_ev r) (2 ^ ((4 + d) % 6)) 0))) kc ks g1 g2 g3 g4 g5 a1 a2 a3 a4 a5 a6 d7 d8 d9 d10 d11 := fun z0 e => by
    refine nq_l491 hr hd hU hp ?_ h9
    rw [← e, nq_sh6 d hd]
    cases nq_ev r with
    | true => exact ((nq_lr6 d hd _ (Nat.mod_lt _ (by decide))).1).symm
    | false => exact ((nq_lr6 d hd 0 (by decide)).2).symm
  cases w : nq_ev r with
  | false =>
    rw [w] at key
    exact br_t rfl (key 0 rfl)
  | true =>
    rw [w] at key
    refine br_f nq_k1 ⟨by decide, key _ ?_⟩
    rw [(nq_r6 d hd).1, nq_sh6 _ (Nat.mod_lt _ (by decide))]
    rfl
theorem nq_l423 {post : Int32 → St0 → Prop} {mc ms kc ks : Nat} {f1 f2 f3 f4 f5 : Int32} {a1 a2 a3 a4 a5 a6 a7 a8 a9 a10 a11 : Nat → Int32} {z : Int32} {r d : Nat} (hr : r < 16) (hd : d < 6) (hU : nq_U a1 a2 a3 a4 a5 a6 15 (nq_K0 r) nq_N 15 (nq_K1 r d 4) nq_N) (hp : post 1 ()) (h9 : z = nI (cond (Nat.blt d ((4 + d) % 6) || !nq_ev r) d ((4 + d) % 6))) : wL_lawOf_423 post mc ms (nI d) 1 (nI r) (nq_b (nq_ev r)) z kc ks f1 f2 f3 f4 f5 a1 a2 a3 a4 a5 a6 a7 a8 a9 a10 a11 := by
  unfold wL_lawOf_423
  obtain ⟨s1, h1, k1⟩ := nq_is_e (nq_t1 r hr d hd)
  obtain ⟨q1, q2, q3, q4, q5⟩ := nq_F1_e k1
  refine br_f nq_k1 (nq_mats hU h1 (fun g1 g2 g3 g4 g5 d7 d8 d9 d10 d11 => ?_))
  rw [q1]
  have key : ∀ z0 : Int32, z0 = nI (cond (nq_ev r) 2 1) → wL_lawOf_444 post mc ms (nI d) (nI r) (nq_b (nq_ev r)) z z0 (nI (cond (nq_ev r) 2 1)) kc ks g1 g2 g3 g4 g5 a1 a2 a3 a4 a5 a6 d7 d8 d9 d10 d11 := fun z0 e => by
    subst e
    exact nq_l444 hr hd hU hp h9
  cases w : nq_ev r with
  | false =>
    rw [w] at key
    exact br_t rfl (key 1 rfl)
  | true =>
    rw [w] at key
    exact br_f nq_k1 (key 2 rfl)
/-- not broken -/
theorem nq_l352 {post : Int32 → St0 → Prop} {mc ms kc ks : Nat} {f1 f2 f3 f4 f5 : Int32} {a1 a2 a3 a4 a5 a6 a7 a8 a9 a10 a11 : Nat → Int32} {r d : Nat} (hr : r < 16) (hd : d < 6) (hU : nq_U a1 a2 a3 a4 a5 a6 15 (nq_K0 r) nq_N 15 (nq_K1 r d 4) nq_N) (hp : post 1 ()) : wL_lawOf_352 post mc ms (nI d) (nI r) 0 (nq_b (nq_ev r)) 1 kc ks f1 f2 f3 f4 f5 a1 a2 a3 a4 a5 a6 a7 a8 a9 a10 a11 := by
  unfold wL_lawOf_352
  rw [(nq_r6 d hd).1]
  have h6 : (4 + d) % 6 < 6 := Nat.mod_lt _ (by decide)
  refine br_t rfl ⟨by decide, pk_lt d ((4 + d) % 6) (fun z => ?_) (fun z => ?_)⟩
  · unfold wL_lawOf_411
    refine nq_l423 hr hd hU hp ?_
    rw [show Nat.blt d ((4 + d) % 6) = true from nq_lt2 z]
    rfl
  · have e : Nat.blt d ((4 + d) % 6) = false := nq_lf2 (by omega)
    have k1 : nq_ev r = false → wL_lawOf_411 post mc ms (nI d) 1 (nI r) (nq_b (nq_ev r)) kc ks f1 f2 f3 f4 f5 a1 a2 a3 a4 a5 a6 a7 a8 a9 a10 a11 := fun w => by
      unfold wL_lawOf_411
      refine nq_l423 hr hd hU hp ?_
      rw [e, w]
      rfl
    have k2 : nq_ev r = true → wL_lawOf_423 post mc ms (nI d) 1 (nI r) (nq_b (nq_ev r)) (nI ((4 + d) % 6)) kc ks f1 f2 f3 f4 f5 a1 a2 a3 a4 a5 a6 a7 a8 a9 a10 a11 := fun w => by
      refine nq_l423 hr hd hU hp ?_
      rw [e, w]
      rfl
    cases w : nq_ev r with
    | false =>
      rw [w] at k1
      exact br_t rfl (k1 rfl)
    | true =>
      rw [w] at k2
      exact br_f nq_k1 ⟨by decide, k2 rfl⟩
/-- broken -/
theorem nq_l352b {post : Int32 → St0 → Prop} {mc ms kc ks : Nat} {f1 f2 f3 f4 f5 : Int32} {a1 a2 a3 a4 a5 a6 a7 a8 a9 a10 a11 : Nat → Int32} {x8 : Int32} {r d h : Nat} (hr : r < 16) (hd : d < 6) (hh : h < 4) (hU : nq_U a1 a2 a3 a4 a5 a6 15 (nq_K0 r) nq_N 15 (nq_K1 r d h) nq_N) (hp : post 1 ()) : wL_lawOf_352 post mc ms (nI d) (nI r) 1 x8 1 kc ks f1 f2 f3 f4 f5 a1 a2 a3 a4 a5 a6 a7 a8 a9 a10 a11 := by
  unfold wL_lawOf_352
  obtain ⟨s1, h1, k1⟩ := nq_is_e (nq_tb r hr d hd h hh)
  have e1 := nq_no_e k1
  subst e1
  exact br_f nq_k1 (br_f nq_k1 (nq_mats hU h1 (fun g1 g2 g3 g4 g5 d7 d8 d9 d10 d11 => br_t rfl (nq_can (i := 2) hU h1 (by decide) rfl (fun g1 g2 g3 g4 g5 d7 d8 d9 d10 d11 => br_t rfl (nq_asg (i := 0) hU h1 (by decide) rfl (fun _ g1 g2 g3 g4 g5 d7 d8 d9 d10 d11 => br_t rfl hp) (fun z => absurd rfl z)))))))
theorem nq_l303 {post : Int32 → St0 → Prop} {mc ms kc ks : Nat} {f1 f2 f3 f4 f5 : Int32} {a1 a2 a3 a4 a5 a6 a7 a8 a9 a10 a11 : Nat → Int32} {x7 z : Int32} {r d h : Nat} (hr : r < 16) (hd : d < 6) (hh : h < 5) (hU : nq_U a1 a2 a3 a4 a5 a6 15 (nq_K0 r) nq_N 15 (nq_K1 r d h) nq_N)
    (H : ∀ (g1 g2 g3 g4 g5 : Int32) (d7 d8 d9 d10 d11 : Nat → Int32), wL_lawOf_352 post mc ms (nI d) (nI r) x7 (nq_b (nq_ev r)) 1 kc ks g1 g2 g3 g4 g5 a1 a2 a3 a4 a5 a6 d7 d8 d9 d10 d11) : wL_lawOf_303 post mc ms (nI d) (nI r) x7 (nq_b (nq_ev r)) z z kc ks f1 f2 f3 f4 f5 a1 a2 a3 a4 a5 a6 a7 a8 a9 a10 a11 := by
  unfold wL_lawOf_303
  obtain ⟨s1, h1, k1⟩ := nq_is_e (nq_ts r hr d hd h hh)
  have t0 := nq_t0 r hr
  unfold nq_c0 at t0
  rw [Bool.and_eq_true, Bool.and_eq_true, Bool.and_eq_true] at t0
  obtain ⟨s2, h2, k2⟩ := nq_is_e t0.2.1
  obtain ⟨s3, h3, k3⟩ := nq_is_e t0.2.2.1
  obtain ⟨s4, h4, k4⟩ := nq_is_e t0.2.2.2
  have e1 := nq_be_e k1
  have e2 := nq_be_e k2
  have e3 := nq_be_e k3
  have e4 := nq_no_e k4
  subst e4
  refine br_t rfl (nq_sym (c := 1) (by decide) hU.2.1 hU.2.2.2 h1 rfl (fun g1 g2 g3 g4 g5 d7 d8 d9 d10 d11 k => br_f ?_ ?_))
  · cases s1 with
    | nil => exact absurd e1 (by decide)
    | cons l q => exact nI_nlt (b := 1) (Nat.succ_le_succ (Nat.zero_le _)) (Nat.lt_of_le_of_lt k (by decide))
  · refine nq_exc (c := 0) (i := 0) (j := 4) (by decide) (by decide) (by decide) hU.1 hU.2.2.1 h2 rfl rfl rfl (fun g1 g2 g3 g4 g5 d7 d8 d9 d10 d11 => nq_b_eq e2 ?_)
    refine nq_exc (c := 0) (i := 2) (j := 2) (by decide) (by decide) (by decide) hU.1 hU.2.2.1 h3 rfl rfl rfl (fun g1 g2 g3 g4 g5 d7 d8 d9 d10 d11 => br_f (by rw [e3]; decide) ?_)
    exact nq_exc (c := 0) (i := 0) (j := 1) (by decide) (by decide) (by decide) hU.1 hU.2.2.1 h4 rfl rfl rfl (fun g1 g2 g3 g4 g5 d7 d8 d9 d10 d11 => br_t rfl (H g1 g2 g3 g4 g5 d7 d8 d9 d10 d11))
theorem nq_l251 {post : Int32 → St0 → Prop} {mc ms kc ks : Nat} {f1 f2 f3 f4 f5 : Int32} {a1 a2 a3 a4 a5 a6 a7 a8 a9 a10 a11 : Nat → Int32} {x7 z : Int32} {r d h : Nat} (hr : r < 16) (hd : d < 6) (hh : h < 5) (hU : nq_U a1 a2 a3 a4 a5 a6 15 (nq_K0 r) nq_N 15 (nq_K1 r d h) nq_N)
    (H : ∀ (g1 g2 g3 g4 g5 : Int32) (d7 d8 d9 d10 d11 : Nat → Int32), wL_lawOf_352 post mc ms (nI d) (nI r) x7 (nq_b (nq_ev r)) 1 kc ks g1 g2 g3 g4 g5 a1 a2 a3 a4 a5 a6 d7 d8 d9 d10 d11) : wL_lawOf_251 post mc ms (nI d) (nI r) x7 (nq_b (nq_ev r)) z z kc ks f1 f2 f3 f4 f5 a1 a2 a3 a4 a5 a6 a7 a8 a9 a10 a11 := by
  unfold wL_lawOf_251
  have t0 := nq_t0 r hr
  unfold nq_c0 at t0
  rw [Bool.and_eq_true] at t0
  obtain ⟨s0, h0, k0⟩ := nq_is_e t0.1
  have e0 := nq_si_e k0
  refine br_t rfl (nq_dev (c := 0) (by decide) hU.1 rfl (br_t rfl ?_))
  refine nq_deg (c := 0) (i := 1) (by decide) (by decide) hU.1 rfl rfl (br_t (congrArg nI (nq_dgt r hr)) ?_)
  refine nq_deg (c := 0) (i := 5) (by decide) (by decide) hU.1 rfl rfl ?_
  refine nq_ones hr (br_t (congrArg nI (nq_dgo r hr)) ?_)
  refine nq_sym (c := 0) (by decide) hU.1 hU.2.2.1 h0 rfl (fun g1 g2 g3 g4 g5 d7 d8 d9 d10 d11 _ => ?_)
  rw [e0]
  have key : ∀ z0 : Int32, z0 = nI (cond (nq_ev r) 2 1) → wL_lawOf_303 post mc ms (nI d) (nI r) x7 (nq_b (nq_ev r)) z0 (nI (cond (nq_ev r) 2 1)) kc ks g1 g2 g3 g4 g5 a1 a2 a3 a4 a5 a6 d7 d8 d9 d10 d11 := fun z0 e => by
    subst e
    exact nq_l303 hr hd hh hU H
  cases w : nq_ev r with
  | false =>
    rw [w] at key
    exact br_t rfl (key 1 rfl)
  | true =>
    rw [w] at key
    exact br_f nq_k1 (key 2 rfl)
theorem nq_l230 {post : Int32 → St0 → Prop} {mc ms kc ks : Nat} {f1 f2 f3 f4 f5 : Int32} {a1 a2 a3 a4 a5 a6 a7 a8 a9 a10 a11 : Nat → Int32} {r d : Nat} (hr : r < 16) (hd : d < 6) (hU : nq_U a1 a2 a3 a4 a5 a6 15 (nq_K0 r) nq_N 15 (nq_K1 r d 4) nq_N) (hp : post 1 ()) : wL_lawOf_230 post mc ms (nI d) 1 (nI r) 0 (nq_b (nq_ev r)) kc ks f1 f2 f3 f4 f5 a1 a2 a3 a4 a5 a6 a7 a8 a9 a10 a11 := by
  unfold wL_lawOf_230
  obtain ⟨s1, h1, k1⟩ := nq_is_e (nq_t1 r hr d hd)
  obtain ⟨q1, _⟩ := nq_F1_e k1
  have ne : (!s1.isEmpty) = true := by
    cases s1 with
    | nil =>
      cases w : nq_ev r with
      | true => rw [w] at q1; exact absurd q1 (by decide)
      | false => rw [w] at q1; exact absurd q1 (by decide)
    | cons l q => rfl
  refine br_f nq_k1 (nq_mat hU h1 (fun g1 g2 g3 g4 g5 d7 d8 d9 d10 d11 _ => br_t rfl ?_))
  rw [ne]
  exact nq_l251 hr hd (h := 4) (by decide) hU (fun g1 g2 g3 g4 g5 d7 d8 d9 d10 d11 => nq_l352 hr hd hU hp)
theorem nq_l230b {post : Int32 → St0 → Prop} {mc ms kc ks : Nat} {f1 f2 f3 f4 f5 : Int32} {a1 a2 a3 a4 a5 a6 a7 a8 a9 a10 a11 : Nat → Int32} {r d h : Nat} (hr : r < 16) (hd : d < 6) (hh : h < 4) (hU : nq_U a1 a2 a3 a4 a5 a6 15 (nq_K0 r) nq_N 15 (nq_K1 r d h) nq_N) (hp : post 1 ()) : wL_lawOf_230 post mc ms (nI d) 1 (nI r) 1 (nq_b (nq_ev r)) kc ks f1 f2 f3 f4 f5 a1 a2 a3 a4 a5 a6 a7 a8 a9 a10 a11 := by
  unfold wL_lawOf_230
  obtain ⟨s1, h1, k1⟩ := nq_is_e (nq_tb r hr d hd h hh)
  have e1 := nq_no_e k1
  subst e1
  exact br_f nq_k1 (nq_mat hU h1 (fun g1 g2 g3 g4 g5 d7 d8 d9 d10 d11 _ => br_f nq_k1 (nq_l251 hr hd (h := h) (by omega) hU (fun g1 g2 g3 g4 g5 d7 d8 d9 d10 d11 => nq_l352b hr hd hh hU hp))))
theorem nq_l197 {post : Int32 → St0 → Prop} {mc ms kc ks : Nat} {f1 f2 f3 f4 f5 : Int32} {a1 a2 a3 a4 a5 a6 a7 a8 a9 a10 a11 : Nat → Int32} {x4 x5 z0 : Int32} {r : Nat} (hr : r < 16) (H : wL_lawOf_230 post mc ms x4 x5 (nI r) z0 (nq_b (nq_ev r)) kc ks f1 f2 f3 f4 f5 a1 a2 a3 a4 a5 a6 a7 a8 a9 a10 a11) : wL_lawOf_197 post mc ms x4 x5 (nI r) z0 kc ks f1 f2 f3 f4 f5 a1 a2 a3 a4 a5 a6 a7 a8 a9 a10 a11 := by
  unfold wL_lawOf_197
  have T : nq_ev r = true → wL_lawOf_225 post mc ms x4 x5 (nI r) z0 kc ks f1 f2 f3 f4 f5 a1 a2 a3 a4 a5 a6 a7 a8 a9 a10 a11 := fun w => by
    rw [w] at H
    unfold wL_lawOf_225
    exact H
  refine pk_eq r 0 (fun z => T (by rw [z]; rfl)) (fun z1 => pk_eq r 15 (fun z => T (by rw [z]; rfl)) (fun z2 => pk_eq r 6 (fun z => T (by rw [z]; rfl)) (fun z3 => pk_eq r 9 (fun z => T (by rw [z]; rfl)) (fun z4 => ?_))))
  have w : nq_ev r = false := by
    unfold nq_ev
    rw [nq_bf z1, nq_bf z2, nq_bf z3, nq_bf z4]
    rfl
  rw [w] at H
  exact H
end
section
/-! the law's loop -/
theorem nq_nt0 : ∀ k, k < 4 → ((5 + (8 * nI k)) + (64 * (nI k + 1))) &&& 7 = nI 5 ∧ (((5 + (8 * nI k)) + (64 * (nI k + 1))) >>> ((3 : Int32) &&& 31)) &&& 7 = nI k ∧ ((5 + (8 * nI k)) + (64 * (nI k + 1))) >>> ((6 : Int32) &&& 31) = nI (k + 1) := by decide +kernel
theorem nq_nt1 : ∀ k, k < 4 → ∀ d, d < 6 →
    ((((5 + nI d) - (5 + nI d) / 6 * 6) + (8 * (((nI k + 1) + nI d) - ((nI k + 1) + nI d) / 6 * 6))) + (64 * ((nI k + nI d) - (nI k + nI d) / 6 * 6))) &&& 7 = nI ((5 + d) % 6) ∧
    (((((5 + nI d) - (5 + nI d) / 6 * 6) + (8 * (((nI k + 1) + nI d) - ((nI k + 1) + nI d) / 6 * 6))) + (64 * ((nI k + nI d) - (nI k + nI d) / 6 * 6))) >>> ((3 : Int32) &&& 31)) &&& 7 = nI ((k + 1 + d) % 6) ∧
    ((((5 + nI d) - (5 + nI d) / 6 * 6) + (8 * (((nI k + 1) + nI d) - ((nI k + 1) + nI d) / 6 * 6))) + (64 * ((nI k + nI d) - (nI k + nI d) / 6 * 6))) >>> ((6 : Int32) &&& 31) = nI ((k + d) % 6) := by decide +kernel
theorem nq_row : ∀ r, r < 16 → ∀ k, k < 4 → (r / 2 ^ k % 2 = 0 → r % 2 ^ (k + 1) = r % 2 ^ k ∧ nq_ty r k = 2) ∧ (r / 2 ^ k % 2 ≠ 0 → nI (r % 2 ^ k) ||| ((1 : Int32) <<< (nI k &&& 31)) = nI (r % 2 ^ (k + 1)) ∧ nq_ty r k = 0) := by decide +kernel
theorem nq_K0k {r k : Nat} (hk : k < 4) : nq_K0 r k = nq_cc (nq_ty r k) 5 k (k + 1) := by
  unfold nq_K0
  rw [nq_lf2 hk]
  rfl
theorem nq_l65 {post : Int32 → St0 → Prop} {mc ms kc ks : Nat} {J : Int32 → Int32 → Int32 → Int32 → Int32 → Int32 → Int32 → Int32 → (Nat → Int32) → (Nat → Int32) → (Nat → Int32) → (Nat → Int32) → (Nat → Int32) → (Nat → Int32) → (Nat → Int32) → (Nat → Int32) → (Nat → Int32) → (Nat → Int32) → (Nat → Int32) → Prop} {f1 f2 f3 f4 f5 : Int32} {a1 a2 a3 a4 a5 a6 a7 a8 a9 a10 a11 : Nat → Int32} {x0 x2 : Int32} {r d h k t o : Nat} (hr : r < 16) (hd : d < 6) (hk : k < 4) (ht : t < 3) (ho : o < 3) (et : nq_ty r k = t) (eo : cond (Nat.beq h k) 1 t = o) (hU : nq_U a1 a2 a3 a4 a5 a6 (2 ^ k - 1) (nq_K0 r) nq_N (2 ^ k - 1) (nq_K1 r d h) nq_N)
    (H : ∀ b1 b2 b3 b4 b5 : Nat → Int32, nq_U b1 b2 b3 b4 b5 a6 (2 ^ (k + 1) - 1) (nq_K0 r) nq_N (2 ^ (k + 1) - 1) (nq_K1 r d h) nq_N → J 1 (nI (r % 2 ^ (k + 1))) (nI (k + 1)) f1 f2 f3 f4 f5 b1 b2 b3 b4 b5 a6 a7 a8 a9 a10 a11) :
    wL_lawOf_65 post mc ms J x0 x2 (nI d) 1 (nI (r % 2 ^ k)) (nI k) (nI t) (nI o) kc ks f1 f2 f3 f4 f5 a1 a2 a3 a4 a5 a6 a7 a8 a9 a10 a11 := by
  unfold wL_lawOf_65
  obtain ⟨n1, n2, n3⟩ := nq_nt0 k hk
  obtain ⟨m1, m2, m3⟩ := nq_nt1 k hk d hd
  have l5 : (5 + d) % 6 < 6 := Nat.mod_lt _ (by decide)
  have lx : (k + 1 + d) % 6 < 6 := Nat.mod_lt _ (by decide)
  have ly : (k + d) % 6 < 6 := Nat.mod_lt _ (by decide)
  refine nq_addm (c := 0) (k := k) (t := t) (by decide) (by omega) ht (by decide) (by omega) (by omega) hU.1.2.1 rfl rfl n1 n2 n3 ⟨by decide, by decide, by decide, ?_⟩
  refine nq_addm (c := 1) (k := k) (t := o) (by decide) (by omega) ho l5 lx ly (by rw [pk_un (by decide)]; exact hU.2.1.2.1) rfl rfl m1 m2 m3 ?_
  have hU2 := (⟨nq_Coth (by omega) (by decide) (nq_Cadd (g := 5) (x := k) (y := k + 1) (by omega) ht (by decide) (by omega) (by omega) hU.1 (by rw [nq_K0k hk, et])), nq_Cadd (g := (5 + d) % 6) (x := (k + 1 + d) % 6) (y := (k + d) % 6) (by omega) ho l5 lx ly (nq_Coth (by omega) (by decide) hU.2.1) (by unfold nq_K1; rw [et, eo]), hU.2.2⟩ : nq_U _ _ _ _ _ a6 (2 ^ (k + 1) - 1) (nq_K0 r) nq_N (2 ^ (k + 1) - 1) (nq_K1 r d h) nq_N)
  refine pk_eq t 0 (fun z => ?_) (fun z => ?_)
  · unfold wL_lawOf_150
    have q : nI (r % 2 ^ k) ||| ((1 : Int32) <<< (nI k &&& 31)) = nI (r % 2 ^ (k + 1)) := ((nq_row r hr k hk).2 (fun w => by have := ((nq_row r hr k hk).1 w).2; omega)).1
    rw [q]
    exact br_f nq_k1 (br_t rfl (br_t rfl (nm_r (nI_1 k) (H _ _ _ _ _ hU2))))
  · unfold wL_lawOf_150
    have q : r % 2 ^ k = r % 2 ^ (k + 1) := by
      by_cases w : r / 2 ^ k % 2 = 0
      · exact (((nq_row r hr k hk).1 w).1).symm
      · exact absurd (et.symm.trans ((nq_row r hr k hk).2 w).2) z
    rw [q]
    exact br_f nq_k1 (br_t rfl (br_t rfl (nm_r (nI_1 k) (H _ _ _ _ _ hU2))))
theorem nq_l26 {post : Int32 → St0 → Prop} {mc ms kc ks : Nat} {x0 x2 : Int32} {a6 : Nat → Int32} {r d h : Nat} (hr : r < 16) (hd : d < 6) (hh : h < 8) (e2 : x2 &&& 7 = nI h) (e0 : ∀ k, k < 4 → (((x0 >>> ((2 * nI k) &&& 31)) &&& 1) = 0 ↔ r / 2 ^ k % 2 = 0)) (hp : post 1 ()) :
    ∀ m k (f1 f2 f3 f4 f5 : Int32) (a1 a2 a3 a4 a5 a7 a8 a9 a10 a11 : Nat → Int32), k + m = 4 → nq_U a1 a2 a3 a4 a5 a6 (2 ^ k - 1) (nq_K0 r) nq_N (2 ^ k - 1) (nq_K1 r d h) nq_N → wL_lawOf_26 post mc ms x0 x2 (nI d) kc ks (m + 1) 1 (nI (r % 2 ^ k)) (nI k) f1 f2 f3 f4 f5 a1 a2 a3 a4 a5 a6 a7 a8 a9 a10 a11 := by
  intro m
  induction m with
  | zero =>
    intro k f1 f2 f3 f4 f5 a1 a2 a3 a4 a5 a7 a8 a9 a10 a11 hk hU
    have ek : k = 4 := by omega
    subst ek
    have er : r % 2 ^ 4 = r := Nat.mod_eq_of_lt hr
    rw [er]
    refine br_t (nI_le (a := 4) (by omega) (by omega)) (pk_le 4 h (fun z => ?_) (fun z => ?_) rfl e2)
    · exact nq_l197 hr (nq_l230 hr hd ⟨hU.1, nq_CK hU.2.1 (fun k hk => nq_K14 z hk), hU.2.2⟩ hp)
    · exact nq_l197 hr (nq_l230b hr hd z hU hp)
  | succ m ih =>
    intro k f1 f2 f3 f4 f5 a1 a2 a3 a4 a5 a7 a8 a9 a10 a11 hk hU
    have hk4 : k < 4 := by omega
    have go : ∀ t, t < 3 → nq_ty r k = t → wL_lawOf_48 post mc ms (wL_lawOf_26 post mc ms x0 x2 (nI d) kc ks (m + 1)) x0 x2 (nI d) 1 (nI (r % 2 ^ k)) (nI k) (nI t) kc ks f1 f2 f3 f4 f5 a1 a2 a3 a4 a5 a6 a7 a8 a9 a10 a11 := fun t ht et => by
      unfold wL_lawOf_48
      refine pk_eq h k (fun z => ?_) (fun z => ?_) e2
      · exact nq_l65 (t := t) (o := 1) hr hd hk4 ht (by decide) et (by rw [nq_bt z]; rfl) hU (fun b1 b2 b3 b4 b5 hU' => ih (k + 1) f1 f2 f3 f4 f5 b1 b2 b3 b4 b5 a7 a8 a9 a10 a11 (by omega) hU')
      · exact nq_l65 (t := t) (o := t) hr hd hk4 ht ht et (by rw [nq_bf z]; rfl) hU (fun b1 b2 b3 b4 b5 hU' => ih (k + 1) f1 f2 f3 f4 f5 b1 b2 b3 b4 b5 a7 a8 a9 a10 a11 (by omega) hU')
    refine br_f (nI_ge (b := 4) hk4 (by omega)) (ek_if (e0 k hk4) (fun z => ?_) (fun z => ?_))
    · exact go 2 (by decide) ((nq_row r hr k hk4).1 z).2
    · exact go 0 (by decide) ((nq_row r hr k hk4).2 z).2
/-! the start -/
theorem nq_in93 {post : St2 → Prop} {mc ms kc ks : Nat} {f1 f2 f3 f4 f5 : Int32} {a1 a2 a3 a4 a5 a6 a7 a8 a9 a10 a11 : Nat → Int32} (h : ∀ b6 : Nat → Int32, (∀ j, j < 12 → b6 j = -1) → post (f1, f2, f3, f4, f5, a1, a2, a3, a4, a5, b6, a7, a8, a9, a10, a11)) : ∀ r i (b6 : Nat → Int32), i + r = 12 → (∀ j, j < i → b6 j = -1) → wX_init_93 post mc ms kc ks f1 f2 f3 f4 f5 (r + 1) (nI i) a1 a2 a3 a4 a5 b6 a7 a8 a9 a10 a11 := by
  intro r
  induction r with
  | zero =>
    intro i b6 hi hb
    exact br_t (nI_le (a := 12) (by omega) (by omega)) (h b6 (fun j hj => hb j (by omega)))
  | succ r ih =>
    intro i b6 hi hb
    refine br_f (nI_ge (b := 12) (by omega) (by omega)) ⟨pk_in i 12 (by omega), nm_r (e' := upd b6 i (-1)) (by rw [nI_clamp (by omega)]) (nm_r (nI_1 i) (ih (i + 1) _ (by omega) (fun j hj => ?_)))⟩
    by_cases e : j = i
    · rw [e, pk_us]
    · rw [pk_un e]
      exact hb j (by omega)
theorem nq_init {post : St2 → Prop} (h : ∀ b6 : Nat → Int32, (∀ j, j < 12 → b6 j = -1) → post (0, 0, 0, 0, 0, (fun _ => 0), (fun _ => 0), (fun _ => 0), (fun _ => 0), (fun _ => 0), b6, (fun _ => 0), (fun _ => 0), (fun _ => 0), (fun _ => 0), (fun _ => 0))) : wpX_init post 11 114 (0, 0, 0, 0, 0) := by
  unfold wpX_init
  refine ⟨by decide, by decide, by decide, by decide, by decide, by decide, by decide, by decide, by decide, by decide, by decide, by decide, by decide, by decide, by decide, by decide, by decide, by decide, by decide, by decide, by decide, by decide, 13, ?_⟩
  exact nq_in93 (a6 := fun _ => 0) h 12 0 _ rfl (fun j hj => absurd hj (Nat.not_lt_zero _))
theorem nq_C0 (c : Nat) (K : Nat → Nat) : nq_C (fun _ => 0) (fun _ => 0) (fun _ => 0) (fun _ => 0) (fun _ => 0) c (2 ^ 0 - 1) K :=
  ⟨by decide, rfl, fun d _ hb => absurd (show (2 ^ 0 - 1) / 2 ^ d % 2 = 0 by rw [show 2 ^ 0 - 1 = 0 from rfl, Nat.zero_div]) hb⟩
theorem nq_R0 {b6 : Nat → Int32} {c : Nat} (hc : c < 2) (h : ∀ j, j < 12 → b6 j = -1) : nq_R b6 c nq_N :=
  ⟨rfl, fun i hi => by
    rw [(nq_Nj_at 0 (by decide) i hi).2, h (c * 6 + i) (by omega)]
    exact ⟨by decide, by decide⟩⟩
/-- the row that the types' bits give -/
theorem nq_bits (x0 : Int32) : ∃ r, r < 16 ∧ ∀ k, k < 4 → (((x0 >>> ((2 * nI k) &&& 31)) &&& 1) = 0 ↔ r / 2 ^ k % 2 = 0) := by
  have key : ∀ P0 P1 P2 P3 : Prop, ∃ r : Nat, r < 16 ∧ (P0 ↔ r / 2 ^ 0 % 2 = 0) ∧ (P1 ↔ r / 2 ^ 1 % 2 = 0) ∧ (P2 ↔ r / 2 ^ 2 % 2 = 0) ∧ (P3 ↔ r / 2 ^ 3 % 2 = 0) := by
    have one : ∀ P : Prop, ∃ b : Nat, b < 2 ∧ (P ↔ b = 0) := fun P => by
      by_cases w : P
      · exact ⟨0, by decide, ⟨fun _ => rfl, fun _ => w⟩⟩
      · exact ⟨1, by decide, ⟨fun z => absurd z w, fun z => absurd z (by decide)⟩⟩
    intro P0 P1 P2 P3
    obtain ⟨b0, l0, e0⟩ := one P0
    obtain ⟨b1, l1, e1⟩ := one P1
    obtain ⟨b2, l2, e2⟩ := one P2
    obtain ⟨b3, l3, e3⟩ := one P3
    refine ⟨b0 + 2 * b1 + 4 * b2 + 8 * b3, by omega, ?_, ?_, ?_, ?_⟩
    · rw [e0]; omega
    · rw [e1]; omega
    · rw [e2]; omega
    · rw [e3]; omega
  obtain ⟨r, hr, h0, h1, h2, h3⟩ := key (((x0 >>> ((2 * nI 0) &&& 31)) &&& 1) = 0) (((x0 >>> ((2 * nI 1) &&& 31)) &&& 1) = 0) (((x0 >>> ((2 * nI 2) &&& 31)) &&& 1) = 0) (((x0 >>> ((2 * nI 3) &&& 31)) &&& 1) = 0)
  exact ⟨r, hr, fun k hk => co_4 (P := fun k => (((x0 >>> ((2 * nI k) &&& 31)) &&& 1) = 0 ↔ r / 2 ^ k % 2 = 0)) h0 h1 h2 h3 hk⟩
theorem nq_law {post : Int32 → St0 → Prop} (x0 x1 x2 : Int32) (hp : post 1 ()) : wpL_lawOf post 58 928 () x0 x1 x2 := by
  unfold wpL_lawOf
  obtain ⟨r, hr, hb⟩ := nq_bits x0
  obtain ⟨n, hn, en⟩ := pk_andE x1 (m := 65535) 16 (by decide)
  obtain ⟨h, hh, eh⟩ := pk_andE x2 (m := 7) 3 (by decide)
  refine ⟨by decide, by decide, 11, 114, by decide, by decide, nq_init (fun b6 hb6 => ⟨by decide, nm_r (e' := nI (n % 6)) ?_ ⟨5, ?_⟩⟩)⟩
  · rw [en]
    exact pk_rem (d := 6) (by omega) (by decide) (by decide)
  · have q := nq_l26 (mc := 58) (ms := 928) (kc := 1 + 11) (ks := 16 + 114) (d := n % 6) hr (Nat.mod_lt n (by decide)) hh eh hb hp 4 0 0 0 0 0 0 (fun _ => 0) (fun _ => 0) (fun _ => 0) (fun _ => 0) (fun _ => 0) (fun _ => 0) (fun _ => 0) (fun _ => 0) (fun _ => 0) (fun _ => 0) rfl ⟨nq_C0 0 _, nq_C0 1 _, nq_R0 (by decide) hb6, nq_R0 (by decide) hb6⟩
    rw [show r % 2 ^ 0 = 0 from Nat.mod_one r] at q
    exact q
/-- a cell of the script, or 0 -/
theorem nq_cell {post : Int32 → Prop} {L : Nat} {xs : Nat → Int32} {i : Nat} {x : Int32} (hL : L ≤ 3) (hi : i < 3) (hx : x = nI i) (h : ∀ v : Int32, post v) : wpL_cellAt post L xs () x := by
  subst hx
  unfold wpL_cellAt
  exact pk_le L i (fun _ => h 0) (fun z => ⟨pk_in i L z, h _⟩)
theorem i_vc (xs : Nat → Int32) (L : Nat) (hL : L ≤ 3) : wpL_law (fun r => r = 1) L xs := by
  unfold wpL_law
  exact nq_cell (i := 0) hL (by decide) rfl (fun v0 => nq_cell (i := 1) hL (by decide) rfl (fun v1 => nq_cell (i := 2) hL (by decide) rfl (fun v2 => ⟨58, 928, by decide, by decide, nq_law v0 v1 v2 rfl⟩)))
end
