section
/-! ===== the executable picture: arrays packed in one Nat, 8 bits a cell; answers in continuation style; false: the picture doesn't know ===== -/
/-- cell i of the packed array t -/
def tv_g (t i : Nat) : Nat := Nat.mod (Nat.shiftRight t (Nat.mul 8 i)) 256
/-- the packed array t with v in cell i -/
def tv_s (t i v : Nat) : Nat := Nat.xor t (Nat.shiftLeft (Nat.xor (tv_g t i) v) (Nat.mul 8 i))
def tv_bit (v z : Nat) : Nat := Nat.mod (Nat.shiftRight v z) 2
def tv_not (lg x : Nat) : Nat := cond (Nat.beq lg 2) (cond (Nat.beq x 0) 2 0) (Nat.sub 2 x)
def tv_app (lg tok x y : Nat) : Nat :=
  cond (Nat.beq tok 1) (cond (Nat.ble y x) y x)
  (cond (Nat.beq tok 2) (cond (Nat.ble x y) y x)
  (cond (Nat.beq lg 0) (cond (Nat.ble 2 (Nat.add (Nat.sub 2 x) y)) 2 (Nat.add (Nat.sub 2 x) y))
  (cond (Nat.beq lg 1) (cond (Nat.ble (Nat.sub 2 x) y) y (Nat.sub 2 x))
  (cond (Nat.ble x y) 2 y))))
/-- the set s, with x too if v has the bit z -/
def tv_put (v z s x : Nat) : Nat := cond (Nat.beq (tv_bit v z) 0) s (Nat.lor s (Nat.shiftLeft 1 x))
def tv_bn (lg v : Nat) : Nat := tv_put v (tv_not lg 2) (tv_put v (tv_not lg 1) (tv_put v (tv_not lg 0) 0 0) 1) 2
def tv_par (lg tok x v : Nat) : Nat := tv_put v (tv_app lg tok x 2) (tv_put v (tv_app lg tok x 1) (tv_put v (tv_app lg tok x 0) 0 0) 1) 2
/-- goOn -/
def tv_go (lg t1 : Nat) (k : Nat → Nat → Nat → Nat → Nat → Nat → Bool) : Nat → Nat → Nat → Nat → Nat → Nat → Bool
  | 0 => fun _ _ _ _ _ => false
  | n + 1 => fun dm hd t6 t7 t8 =>
    cond (Nat.ble dm hd) (k 1 dm hd t6 t7 t8)
    (cond (Nat.ble hd 31)
    (cond (Nat.ble (tv_g t6 hd) 17)
    (cond (Nat.ble 4 (tv_g t1 (tv_g t6 hd)))
      (cond (Nat.ble (tv_g t1 (tv_g t6 hd)) 7)
        (cond (Nat.beq (Nat.land (tv_g t8 (Nat.sub (tv_g t1 (tv_g t6 hd)) 4)) (tv_g t7 hd)) 0)
          (k 0 dm hd t6 t7 (tv_s t8 (Nat.sub (tv_g t1 (tv_g t6 hd)) 4) 0))
          (tv_go lg t1 k n dm (Nat.add hd 1) t6 t7 (tv_s t8 (Nat.sub (tv_g t1 (tv_g t6 hd)) 4) (Nat.land (tv_g t8 (Nat.sub (tv_g t1 (tv_g t6 hd)) 4)) (tv_g t7 hd)))))
        false)
      (cond (Nat.beq (tv_g t1 (tv_g t6 hd)) 0)
        (cond (Nat.beq (tv_bn lg (tv_g t7 hd)) 0)
          (k 0 dm hd t6 t7 t8)
          (cond (Nat.ble dm 31)
            (tv_go lg t1 k n (Nat.add dm 1) (Nat.add hd 1) (tv_s t6 dm (Nat.add (tv_g t6 hd) 1)) (tv_s t7 dm (tv_bn lg (tv_g t7 hd))) t8)
            false))
        (k 2 dm hd t6 t7 t8)))
    false) false)
/-- nextTurn's loop: the next x with partners -/
def tv_turn (lg tok v : Nat) (k0 : Bool) (k1 : Nat → Nat → Bool) : Nat → Nat → Bool
  | 0 => fun _ => false
  | n + 1 => fun x => cond (Nat.ble 3 x) k0 (cond (Nat.beq (tv_par lg tok x v) 0) (tv_turn lg tok v k0 k1 n (Nat.add x 1)) (k1 x (tv_par lg tok x v)))
/-- the while loop of meets: branches are left until one turns; a branch: demands, head, the next value to try, left -/
def tv_back (lg t1 t3 t6 t7 : Nat) (k0 : Bool) (k1 : Nat → Nat → Nat → Nat → Nat → List (Nat × Nat × Nat × Nat) → Bool) : List (Nat × Nat × Nat × Nat) → Nat → Bool
  | [] => fun _ => k0
  | (d, h, x, t) :: s => fun dm =>
    cond (Nat.ble d dm)
    (cond (Nat.ble (Nat.add h 1) d)
    (cond (Nat.ble d 30)
    (cond (Nat.ble (tv_g t6 h) 17)
    (cond (Nat.ble 1 (tv_g t1 (tv_g t6 h)))
    (tv_turn lg (tv_g t1 (tv_g t6 h)) (tv_g t7 h) (tv_back lg t1 t3 t6 t7 k0 k1 s d)
      (fun y fit => k1 (Nat.add d 2) (Nat.add h 1) (tv_s (tv_s t6 d (Nat.add (tv_g t6 h) 1)) (Nat.add d 1) (tv_g t3 (tv_g t6 h))) (tv_s (tv_s t7 d (Nat.shiftLeft 1 y)) (Nat.add d 1) fit) t ((d, h, Nat.add y 1, t) :: s))
      4 x)
    false) false) false) false) false
/-- meets' main loop; its fuel stands below 32768 -/
def tv_main (lg t1 t3 : Nat) (k : Nat → Bool) : Nat → Nat → Nat → Nat → Nat → Nat → Nat → List (Nat × Nat × Nat × Nat) → Bool
  | 0 => fun _ _ _ _ _ _ _ => false
  | n + 1 => fun st dm hd t6 t7 t8 stk =>
    cond (Nat.beq st 1) (k 1)
    (cond (Nat.beq st 2)
      (cond (Nat.ble (List.length stk) 11)
      (cond (Nat.ble dm 32)
      (cond (Nat.ble hd 32)
      (tv_back lg t1 t3 t6 t7 (k 0) (fun dm' hd' t6' t7' t8' stk' => tv_go lg t1 (fun st'' dm'' hd'' t6'' t7'' t8'' => tv_main lg t1 t3 k n st'' dm'' hd'' t6'' t7'' t8'' stk') 40 dm' hd' t6' t7' t8') ((dm, hd, 0, t8) :: stk) dm)
      false) false) false)
      (tv_back lg t1 t3 t6 t7 (k 0) (fun dm' hd' t6' t7' t8' stk' => tv_go lg t1 (fun st'' dm'' hd'' t6'' t7'' t8'' => tv_main lg t1 t3 k n st'' dm'' hd'' t6'' t7'' t8'' stk') 40 dm' hd' t6' t7' t8') stk dm))
def tv_m3 (lg t1 t3 t13 : Nat) (k : Nat → Bool) (dm t6 t7 : Nat) : Bool :=
  tv_go lg t1 (fun st dm' hd' t6' t7' t8' => tv_main lg t1 t3 k 200 st dm' hd' t6' t7' t8' []) 40 dm 0 t6 t7 t13
def tv_m2 (lg t1 t3 ov t13 : Nat) (k : Nat → Bool) (dm t6 t7 : Nat) : Bool :=
  cond (Nat.beq ov 7) (tv_m3 lg t1 t3 t13 k dm t6 t7) (tv_m3 lg t1 t3 t13 k (Nat.add dm 1) (tv_s t6 dm 9) (tv_s t7 dm ov))
/-- meets: values fv and ov asked of the formulas, the letters' free values t13 -/
def tv_meets (lg t1 t3 fv ov t13 : Nat) (k : Nat → Bool) : Bool :=
  cond (Nat.beq fv 7) (tv_m2 lg t1 t3 ov t13 k 0 0 0) (tv_m2 lg t1 t3 ov t13 k 1 (tv_s 0 0 0) (tv_s 0 0 fv))
/-- leastValue's loop -/
def tv_lv (lg t1 t3 fv ov l o : Nat) (k : Nat → Nat → Bool) : Nat → Nat → Nat → Bool
  | 0 => fun _ _ => false
  | n + 1 => fun v t13 => cond (Nat.ble 3 v) (k 0 t13)
    (cond (Nat.beq (tv_bit o v) 0) (tv_lv lg t1 t3 fv ov l o k n (Nat.add v 1) t13)
    (tv_meets lg t1 t3 fv ov (tv_s t13 l (Nat.shiftLeft 1 v)) (fun r => cond (Nat.beq r 0) (tv_lv lg t1 t3 fv ov l o k n (Nat.add v 1) (tv_s t13 l (Nat.shiftLeft 1 v))) (k v (tv_s t13 l (Nat.shiftLeft 1 v))))))
/-- least's loop: letters j - 1 .. 0; the answer n is told as n + 1, none as 0 -/
def tv_lp (lg t1 t3 fv ov : Nat) (k : Nat → Bool) : Nat → Nat → Nat → Bool
  | 0 => fun num _ => k (Nat.add num 1)
  | j + 1 => fun num t13 => cond (Nat.ble num 1000) (tv_lv lg t1 t3 fv ov j (tv_g t13 j) (fun v t => tv_lp lg t1 t3 fv ov k j (Nat.add (Nat.mul 3 num) v) t) 4 0 t13) false
def tv_least (lg t1 t3 fv ov t13 : Nat) (k : Nat → Bool) : Bool :=
  tv_meets lg t1 t3 fv ov t13 (fun r => cond (Nat.beq r 0) (k 0) (tv_lp lg t1 t3 fv ov k 4 0 t13))
/-- attach -/
def tv_at2 (top w oc t3 t5 : Nat) (k : Nat → Nat → Nat → Bool) : Bool :=
  cond (Nat.beq w 0) (k (Nat.sub oc 1) t3 (tv_s t5 top w)) (k oc t3 (tv_s t5 top w))
def tv_att (cell oc t3 t4 t5 : Nat) (k : Nat → Nat → Nat → Bool) : Bool :=
  cond (Nat.ble 1 oc) (cond (Nat.ble oc 10) (cond (Nat.ble (tv_g t4 (Nat.sub oc 1)) 17) (cond (Nat.ble 1 (tv_g t5 (Nat.sub oc 1)))
    (cond (Nat.beq cell (Nat.add (tv_g t4 (Nat.sub oc 1)) 1))
      (tv_at2 (Nat.sub oc 1) (Nat.sub (tv_g t5 (Nat.sub oc 1)) 1) oc t3 t5 k)
      (tv_at2 (Nat.sub oc 1) (Nat.sub (tv_g t5 (Nat.sub oc 1)) 1) oc (tv_s t3 (tv_g t4 (Nat.sub oc 1)) cell) t5 k))
  false) false) false) false
def tv_wants (tok : Nat) : Nat := cond (Nat.beq tok 0) 1 (cond (Nat.ble 4 tok) 0 2)
def tv_rd2 (cell want x oc t3 t4 t5 : Nat) (k : Nat → Nat → Nat → Nat → Nat → Bool) : Bool :=
  cond (Nat.beq want 0) (k (Nat.add x 1) oc t3 t4 t5) (cond (Nat.ble oc 9) (k (Nat.add x 1) (Nat.add oc 1) t3 (tv_s t4 oc cell) (tv_s t5 oc want)) false)
/-- read's loop: formula f of size sz -/
def tv_rd (f sz t1 : Nat) (k : Nat → Nat → Nat → Nat → Bool) : Nat → Nat → Nat → Nat → Nat → Nat → Bool
  | 0 => fun _ _ _ _ _ => false
  | n + 1 => fun x oc t3 t4 t5 =>
    cond (Nat.ble sz x) (k oc t3 t4 t5)
    (cond (Nat.ble (Nat.add (Nat.mul f 9) x) 17)
      (cond (Nat.beq oc 0)
        (tv_rd2 (Nat.add (Nat.mul f 9) x) (tv_wants (tv_g t1 (Nat.add (Nat.mul f 9) x))) x oc t3 t4 t5 (tv_rd f sz t1 k n))
        (tv_att (Nat.add (Nat.mul f 9) x) oc t3 t4 t5 (fun oc' t3' t5' => tv_rd2 (Nat.add (Nat.mul f 9) x) (tv_wants (tv_g t1 (Nat.add (Nat.mul f 9) x))) x oc' t3' t4 t5' (tv_rd f sz t1 k n))))
      false)
/-- complete: its answer and the second parts -/
def tv_comp (f t1 t2 t3 : Nat) (k : Nat → Nat → Bool) : Bool :=
  tv_rd f (tv_g t2 f) t1 (fun oc t3' _ _ => cond (Nat.beq (tv_g t2 f) 0) (k 0 t3') (cond (Nat.beq oc 0) (k 1 t3') (k 0 t3'))) 20 0 0 t3 0 0
def tv_feed (f tok t1 t2 t3 : Nat) (k : Nat → Nat → Nat → Nat → Bool) : Bool :=
  cond (Nat.ble (tv_g t2 f) 8)
  (tv_comp f t1 t2 t3 (fun r t3' => cond (Nat.beq r 0) (k (Nat.add (tv_g t2 f) 1) (tv_s t1 (Nat.add (Nat.mul f 9) (tv_g t2 f)) tok) (tv_s t2 f (Nat.add (tv_g t2 f) 1)) t3') false)) false
/-- back: the size before must not be 0 -/
def tv_bk (f t1 t2 : Nat) (k : Nat → Nat → Bool) : Bool :=
  cond (Nat.ble 1 (tv_g t2 f)) (cond (Nat.ble (tv_g t2 f) 9) (k (tv_g t1 (Nat.add (Nat.mul f 9) (Nat.sub (tv_g t2 f) 1))) (tv_s t2 f (Nat.sub (tv_g t2 f) 1))) false) false
def tv_both (t1 t2 t3 : Nat) (k : Nat → Nat → Bool) : Bool :=
  tv_comp 0 t1 t2 t3 (fun r t3' => cond (Nat.beq r 0) (k 0 t3') (tv_comp 1 t1 t2 t3' (fun r' t3'' => cond (Nat.beq r' 0) (k 0 t3'') (k 1 t3''))))
/-- all values free to all letters -/
def tv_al : Nat := 117901063
def tv_never (lg t1 t3 fv ov : Nat) (k : Nat → Bool) : Bool := tv_meets lg t1 t3 fv ov tv_al (fun r => cond (Nat.beq r 0) (k 1) (k 0))
def tv_entails (lg t1 t2 t3 : Nat) (k : Nat → Nat → Bool) : Bool :=
  tv_both t1 t2 t3 (fun r t3' => cond (Nat.beq r 0) (k 0 t3') (tv_never lg t1 t3' 4 3 (fun r' => k r' t3')))
def tv_below (lg t1 t2 t3 : Nat) (k : Nat → Nat → Bool) : Bool :=
  tv_both t1 t2 t3 (fun r t3' => cond (Nat.beq r 0) (k 0 t3') (tv_never lg t1 t3' 2 1 (fun r' => cond (Nat.beq r' 0) (k 0 t3') (tv_never lg t1 t3' 4 3 (fun r'' => k r'' t3')))))
def tv_alike (lg t1 t2 t3 : Nat) (k : Nat → Nat → Bool) : Bool :=
  tv_both t1 t2 t3 (fun r t3' => cond (Nat.beq r 0) (k 0 t3')
    (tv_never lg t1 t3' 1 6 (fun r1 => cond (Nat.beq r1 0) (k 0 t3')
    (tv_never lg t1 t3' 2 5 (fun r2 => cond (Nat.beq r2 0) (k 0 t3')
    (tv_never lg t1 t3' 4 3 (fun r3 => k r3 t3')))))))
/-- findBoth over values v, w: answers told as n + 1, none as 0 -/
def tv_fb (lg v w t1 t2 t3 : Nat) (k : Nat → Nat → Bool) : Bool :=
  tv_both t1 t2 t3 (fun r t3' => cond (Nat.beq r 0) (k 0 t3') (tv_least lg t1 t3' (Nat.shiftLeft 1 v) (Nat.shiftLeft 1 w) tv_al (fun f => k f t3')))
/-- find, valid, values and findApart of formula 0 -/
def tv_find (lg v t1 t2 t3 : Nat) (k : Nat → Nat → Bool) : Bool :=
  tv_comp 0 t1 t2 t3 (fun r t3' => cond (Nat.beq r 0) (k 0 t3') (tv_least lg t1 t3' (Nat.shiftLeft 1 v) 7 tv_al (fun f => k f t3')))
def tv_valid (lg t1 t2 t3 : Nat) (k : Nat → Nat → Bool) : Bool :=
  tv_comp 0 t1 t2 t3 (fun r t3' => cond (Nat.beq r 0) (k 0 t3') (tv_meets lg t1 t3' 3 7 tv_al (fun r' => cond (Nat.beq r' 0) (k 1 t3') (k 0 t3'))))
def tv_vl (lg t1 t3 : Nat) (k : Nat → Bool) : Nat → Nat → Nat → Bool
  | 0 => fun _ _ => false
  | n + 1 => fun s v => cond (Nat.ble 3 v) (k s)
    (tv_meets lg t1 t3 (Nat.shiftLeft 1 v) 7 tv_al (fun r => cond (Nat.beq r 0) (tv_vl lg t1 t3 k n s (Nat.add v 1)) (tv_vl lg t1 t3 k n (Nat.lor s (Nat.shiftLeft 1 v)) (Nat.add v 1))))
def tv_values (lg t1 t2 t3 : Nat) (k : Nat → Nat → Bool) : Bool :=
  tv_comp 0 t1 t2 t3 (fun r t3' => cond (Nat.beq r 0) (k 0 t3') (tv_vl lg t1 t3' (fun s => k s t3') 4 0 0))
def tv_fa (lg t1 t3 l : Nat) (k : Nat → Bool) : Nat → Nat → Nat → Bool
  | 0 => fun _ _ => false
  | n + 1 => fun b v => cond (Nat.ble 3 v) (k b)
    (tv_least lg t1 t3 (Nat.sub 7 (Nat.shiftLeft 1 v)) 7 (tv_s tv_al l (Nat.shiftLeft 1 v)) (fun f =>
      cond (Nat.beq f 0) (tv_fa lg t1 t3 l k n b (Nat.add v 1))
      (cond (Nat.beq b 0) (tv_fa lg t1 t3 l k n f (Nat.add v 1))
      (cond (Nat.ble b f) (tv_fa lg t1 t3 l k n b (Nat.add v 1)) (tv_fa lg t1 t3 l k n f (Nat.add v 1))))))
def tv_apart (lg l t1 t2 t3 : Nat) (k : Nat → Nat → Bool) : Bool :=
  tv_comp 0 t1 t2 t3 (fun r t3' => cond (Nat.beq r 0) (k 0 t3') (tv_fa lg t1 t3' l (fun f => k f t3') 4 0 0))
/-! the law's good road, piece by piece, from its end -/
def tv_step (l : Nat) : Nat := cond (Nat.beq l 0) 1 (cond (Nat.beq l 1) 3 (cond (Nat.beq l 2) 9 27))
/-- the check a = b -/
def tv_q (a b : Nat) (c : Bool) : Bool := cond (Nat.beq a b) c false
def tv_same (l m : Nat) : Nat := cond (Nat.beq l m) 1 0
/-- from law row 481 -/
def tv_L6 (lg m t1 t2 t3 : Nat) : Bool :=
  tv_bk 1 t1 t2 (fun r t2' => tv_q r (Nat.add 4 m) (tv_alike lg t1 t2' t3 (fun r' t3' => tv_q r' 0 (tv_fb lg 2 2 t1 t2' t3' (fun f _ => tv_q f 0 true)))))
/-- from law row 356, behind its loop -/
def tv_L5 (lg l m t1 t2 t3 : Nat) : Bool :=
  tv_feed 0 0 t1 t2 t3 (fun _ t1 t2 t3 => tv_feed 0 0 t1 t2 t3 (fun _ t1 t2 t3 => tv_feed 0 (Nat.add 4 l) t1 t2 t3 (fun r t1 t2 t3 =>
    tv_q r 3 (tv_apart lg l t1 t2 t3 (fun f t3 => tv_q f (cond (Nat.beq lg 2) (Nat.add (tv_step l) 1) 0)
    (tv_alike lg t1 t2 t3 (fun r t3 => tv_q r (cond (Nat.beq lg 2) 0 (tv_same l m))
    (tv_values lg t1 t2 t3 (fun s t3 => tv_q s (cond (Nat.beq lg 2) 5 7) (tv_L6 lg m t1 t2 t3))))))))))
/-- n times back of formula 0 -/
def tv_bks (t1 : Nat) (k : Nat → Bool) : Nat → Nat → Bool
  | 0 => fun t2 => k t2
  | n + 1 => fun t2 => tv_bk 0 t1 t2 (fun _ t2' => tv_bks t1 k n t2')
/-- from law row 237, behind its loop -/
def tv_L4 (lg l m t1 t2 t3 : Nat) : Bool :=
  tv_feed 0 3 t1 t2 t3 (fun _ t1 t2 t3 => tv_feed 0 (Nat.add 4 l) t1 t2 t3 (fun _ t1 t2 t3 => tv_feed 0 (Nat.add 4 l) t1 t2 t3 (fun _ t1 t2 t3 =>
    tv_valid lg t1 t2 t3 (fun r t3 => tv_q r (cond (Nat.beq lg 1) 0 1)
    (tv_values lg t1 t2 t3 (fun s t3 => tv_q s (cond (Nat.beq lg 1) 6 4)
    (tv_find lg 1 t1 t2 t3 (fun f t3 => tv_q f (cond (Nat.beq lg 1) (Nat.add (tv_step l) 1) 0)
    (tv_bks t1 (fun t2 => tv_L5 lg l m t1 t2 t3) 3 t2)))))))))
/-- from law row 208 -/
def tv_L3 (lg l m t1 t2 t3 : Nat) : Bool :=
  tv_fb lg 2 1 t1 t2 t3 (fun f t3 => tv_q f 0 (tv_alike lg t1 t2 t3 (fun r t3 => tv_q r (tv_same l m) (tv_bks t1 (fun t2 => tv_L4 lg l m t1 t2 t3) 5 t2))))
/-- from law row 172 -/
def tv_L2 (lg l m t1 t2 t3 : Nat) : Bool :=
  cond (Nat.beq l m) (tv_L3 lg l m t1 t2 t3)
  (tv_fb lg 1 0 t1 t2 t3 (fun f t3 => tv_q f (cond (Nat.beq lg 2) 0 (Nat.add (tv_step l) 1)) (tv_L3 lg l m t1 t2 t3)))
/-- from law row 59 -/
def tv_L1 (lg l m : Nat) : Bool :=
  tv_feed 0 1 0 0 0 (fun _ t1 t2 t3 => tv_feed 0 (Nat.add 4 l) t1 t2 t3 (fun _ t1 t2 t3 => tv_feed 0 3 t1 t2 t3 (fun _ t1 t2 t3 => tv_feed 0 (Nat.add 4 l) t1 t2 t3 (fun _ t1 t2 t3 => tv_feed 0 (Nat.add 4 m) t1 t2 t3 (fun five t1 t2 t3 =>
    tv_entails lg t1 t2 t3 (fun op t3 => tv_feed 1 (Nat.add 4 m) t1 t2 t3 (fun one t1 t2 t3 =>
    tv_q five 5 (tv_q op 0 (tv_q one 1 (tv_entails lg t1 t2 t3 (fun r t3 => tv_q r 1 (tv_below lg t1 t2 t3 (fun r t3 =>
    tv_q r (cond (Nat.beq lg 2) 1 (tv_same l m)) (tv_L2 lg l m t1 t2 t3)))))))))))))) 
theorem tv_L1_all : ∀ lg, lg < 3 → ∀ l, l < 4 → ∀ m, m < 4 → tv_L1 lg l m = true := by decide +kernel
end
section
section
/-! ===== the picture's checks, read back ===== -/
theorem tv_c {c A B : Bool} {G : Prop} (h : cond c A B = true) (f : c = true → A = true → G) (g : c = false → B = true → G) : G := by
  cases c
  · exact g rfl h
  · exact f rfl h
theorem tv_bt {a b : Nat} (h : a = b) : Nat.beq a b = true := by
  subst h
  exact Nat.beq_refl a
theorem tv_bf {a b : Nat} (h : a ≠ b) : Nat.beq a b = false := by
  cases z : Nat.beq a b with
  | false => rfl
  | true => exact absurd (Nat.eq_of_beq_eq_true z) h
theorem tv_lt {a b : Nat} (h : a ≤ b) : Nat.ble a b = true := Nat.ble_eq_true_of_le h
theorem tv_lf {a b : Nat} (h : b < a) : Nat.ble a b = false := by
  cases z : Nat.ble a b with
  | false => rfl
  | true => exact absurd (Nat.le_of_ble_eq_true z) (by omega)
theorem tv_le {a b : Nat} {A B : Bool} {G : Prop} (h : cond (Nat.ble a b) A B = true) (f : a ≤ b → A = true → G) (g : b < a → B = true → G) : G := by
  rcases Nat.lt_or_ge b a with z | z
  · rw [tv_lf z] at h
    exact g z h
  · rw [tv_lt z] at h
    exact f z h
theorem tv_eq {a b : Nat} {A B : Bool} {G : Prop} (h : cond (Nat.beq a b) A B = true) (f : a = b → A = true → G) (g : a ≠ b → B = true → G) : G := by
  by_cases z : a = b
  · rw [tv_bt z] at h
    exact f z h
  · rw [tv_bf z] at h
    exact g z h
theorem tv_as {a b : Nat} {A : Bool} (h : cond (Nat.ble a b) A false = true) : a ≤ b ∧ A = true :=
  tv_le h (fun z g => ⟨z, g⟩) (fun _ g => absurd g (by decide))
theorem tv_ae {a b : Nat} {A : Bool} (h : tv_q a b A = true) : a = b ∧ A = true :=
  tv_eq (A := A) (B := false) h (fun z g => ⟨z, g⟩) (fun _ g => absurd g (by decide))
/-! ===== packed arrays ===== -/
theorem tv_gd (t i : Nat) : tv_g t i = (t >>> (8 * i)) % 2 ^ 8 := rfl
theorem tv_gb (t i b : Nat) : (tv_g t i).testBit b = (decide (b < 8) && t.testBit (8 * i + b)) := by
  rw [tv_gd, Nat.testBit_mod_two_pow, Nat.testBit_shiftRight]
theorem tv_sb (t i v b : Nat) : (tv_s t i v).testBit b = (t.testBit b ^^ (decide (8 * i ≤ b) && ((tv_g t i).testBit (b - 8 * i) ^^ v.testBit (b - 8 * i)))) := by
  show (t ^^^ ((tv_g t i ^^^ v) <<< (8 * i))).testBit b = _
  rw [Nat.testBit_xor, Nat.testBit_shiftLeft, Nat.testBit_xor]
theorem tv_hi {v b : Nat} (hv : v < 256) (hb : 8 ≤ b) : v.testBit b = false :=
  Nat.testBit_lt_two_pow (Nat.lt_of_lt_of_le hv (Nat.pow_le_pow_right (n := 2) (i := 8) (j := b) (by omega) hb))
theorem tv_gl (t i : Nat) : tv_g t i < 256 := Nat.mod_lt _ (by decide)
theorem tv_gs {t i v : Nat} (hv : v < 256) : tv_g (tv_s t i v) i = v := by
  apply Nat.eq_of_testBit_eq
  intro b
  rw [tv_gb, tv_sb]
  by_cases hb : b < 8
  · rw [tv_gb, show 8 * i + b - 8 * i = b by omega]
    simp [hb]
  · rw [tv_hi hv (show 8 ≤ b by omega)]
    simp [hb]
theorem tv_gn {t i j v : Nat} (hv : v < 256) (h : j ≠ i) : tv_g (tv_s t i v) j = tv_g t j := by
  apply Nat.eq_of_testBit_eq
  intro b
  rw [tv_gb, tv_gb, tv_sb]
  by_cases hb : b < 8
  · by_cases hi : 8 * i ≤ 8 * j + b
    · rw [tv_hi hv (show 8 ≤ 8 * j + b - 8 * i by omega), tv_hi (tv_gl t i) (show 8 ≤ 8 * j + b - 8 * i by omega)]
      simp
    · simp [hi]
  · simp [hb]
/-- the array a holds, below n, what t holds; all of it below 128 -/
def tv_ag (n : Nat) (a : Nat → Int32) (t : Nat) : Prop := ∀ i, i < n → tv_g t i < 128 ∧ a i = nI (tv_g t i)
theorem tv_ag_0 (n : Nat) : tv_ag n (fun _ => 0) 0 := by
  intro i _
  have e : tv_g 0 i = 0 := by rw [tv_gd, Nat.zero_shiftRight]
  rw [e]
  exact ⟨by decide, rfl⟩
theorem tv_ag_z {a : Nat → Int32} {t : Nat} : tv_ag 0 a t := fun i h => absurd h (by omega)
theorem tv_ag_le {n m : Nat} {a : Nat → Int32} {t : Nat} (h : tv_ag n a t) (hm : m ≤ n) : tv_ag m a t := fun i hi => h i (by omega)
theorem tv_ag_set {n i v : Nat} {a : Nat → Int32} {t : Nat} (h : tv_ag n a t) (hv : v < 128) : tv_ag n (upd a i (nI v)) (tv_s t i v) := by
  intro j hj
  by_cases e : j = i
  · subst e
    rw [tv_gs (by omega), pk_us]
    exact ⟨hv, rfl⟩
  · rw [tv_gn (by omega) e, pk_un e]
    exact h j hj
theorem tv_ag_push {n v : Nat} {a : Nat → Int32} {t : Nat} (h : tv_ag n a t) (hv : v < 128) : tv_ag (n + 1) (upd a n (nI v)) (tv_s t n v) := by
  intro j hj
  by_cases e : j = n
  · subst e
    rw [tv_gs (by omega), pk_us]
    exact ⟨hv, rfl⟩
  · rw [tv_gn (by omega) e, pk_un e]
    exact h j (by omega)
/-- one more place copied -/
theorem tv_ag_cp {n : Nat} {a : Nat → Int32} {t : Nat} (h : tv_ag n a t) (hv : tv_g t n < 128) : tv_ag (n + 1) (upd a n (nI (tv_g t n))) t := by
  intro j hj
  by_cases e : j = n
  · subst e
    rw [pk_us]
    exact ⟨hv, rfl⟩
  · rw [pk_un e]
    exact h j (by omega)
/-! ===== small facts of Int32 ===== -/
theorem tv_nx (a b : Nat) : nI a &&& nI b = nI (a &&& b) := by
  apply Int32.toBitVec_inj.1
  show BitVec.ofNat 32 a &&& BitVec.ofNat 32 b = BitVec.ofNat 32 (a &&& b)
  apply BitVec.eq_of_getLsbD_eq
  intro i hi
  simp [hi]
theorem tv_nb : ∀ v, v < 128 → (nI v).toInt8.toInt32 = nI v := by decide +kernel
theorem tv_nv (v : Nat) (h : v < 128) : vp_nar .byte (nI v) = nI v := by rw [vp_nar_byte, tv_nb v h]
theorem tv_b0 : ∀ v, v < 128 → ∀ z, z < 3 → (((nI v >>> (nI z &&& 31)) &&& 1) = 0 ↔ tv_bit v z = 0) := by decide +kernel
theorem tv_or : ∀ s, s < 8 → ∀ x, x < 3 → nI s ||| ((1 : Int32) <<< (nI x &&& 31)) = nI (Nat.lor s (Nat.shiftLeft 1 x)) := by decide +kernel
theorem tv_orl : ∀ s, s < 8 → ∀ x, x < 3 → Nat.lor s (Nat.shiftLeft 1 x) < 8 := by decide +kernel
theorem tv_sh : ∀ x, x < 3 → (1 : Int32) <<< (nI x &&& 31) = nI (Nat.shiftLeft 1 x) := by decide +kernel
theorem tv_shl : ∀ x, x < 3 → Nat.shiftLeft 1 x < 8 := by decide +kernel
theorem tv_put_l {v z s x : Nat} (hs : s < 8) (hx : x < 3) : tv_put v z s x < 8 := by
  unfold tv_put
  cases Nat.beq (tv_bit v z) 0
  · exact tv_orl s hs x hx
  · exact hs
theorem tv_bn_l (lg v : Nat) : tv_bn lg v < 8 := tv_put_l (tv_put_l (tv_put_l (by omega) (by omega)) (by omega)) (by omega)
theorem tv_par_l (lg tok x v : Nat) : tv_par lg tok x v < 8 := tv_put_l (tv_put_l (tv_put_l (by omega) (by omega)) (by omega)) (by omega)
end
end
section
section
variable {f2 f3 f4 f5 f6 : Int32} {a1 a2 a3 a4 a5 a6 a7 a8 a9 a10 a11 a12 a13 a14 : Nat → Int32}
/-! ===== truth tables ===== -/
theorem tv_not_l {lg x : Nat} (hx : x < 3) : tv_not lg x < 3 := by
  unfold tv_not
  cases Nat.beq lg 2
  · show 2 - x < 3
    omega
  · cases Nat.beq x 0
    · show 0 < 3
      omega
    · show 2 < 3
      omega
theorem tv_app_l {lg tok x y : Nat} (hx : x < 3) (hy : y < 3) : tv_app lg tok x y < 3 := by
  unfold tv_app
  cases Nat.beq tok 1
  · cases Nat.beq tok 2
    · cases Nat.beq lg 0
      · cases Nat.beq lg 1
        · cases Nat.ble x y
          · exact hy
          · show 2 < 3
            omega
        · cases Nat.ble (Nat.sub 2 x) y
          · show 2 - x < 3
            omega
          · exact hy
      · cases e : Nat.ble 2 (Nat.add (Nat.sub 2 x) y)
        · show 2 - x + y < 3
          have z : ¬ 2 ≤ 2 - x + y := fun g => by
            rw [show Nat.ble 2 (Nat.add (Nat.sub 2 x) y) = true from tv_lt g] at e
            cases e
          omega
        · show 2 < 3
          omega
    · cases Nat.ble x y
      · exact hx
      · exact hy
  · cases Nat.ble y x
    · exact hx
    · exact hy
theorem tv_not_ok {post : Int32 → Prop} {lg x : Nat} (hl : lg < 3) (hx : x < 3) (H : post (nI (tv_not lg x))) : wpX_not post (nI lg, f2, f3, f4, f5, f6, a1, a2, a3, a4, a5, a6, a7, a8, a9, a10, a11, a12, a13, a14) (nI x) := by
  unfold wpX_not
  unfold tv_not at H
  refine pk_eq lg 2 (fun e => pk_eq x 0 (fun e' => ?_) (fun e' => ?_)) (fun e => ?_)
  · rw [tv_bt e, tv_bt e'] at H
    exact H
  · rw [tv_bt e, tv_bf e'] at H
    exact H
  · rw [tv_bf e] at H
    exact ek_v (pk_sub (show x ≤ 2 by omega)) H
theorem tv_app_ok {post : Int32 → Prop} {lg tok x y : Nat} (hl : lg < 3) (ht : tok < 128) (hx : x < 3) (hy : y < 3) (H : post (nI (tv_app lg tok x y))) : wpX_apply post (nI lg, f2, f3, f4, f5, f6, a1, a2, a3, a4, a5, a6, a7, a8, a9, a10, a11, a12, a13, a14) (nI tok) (nI x) (nI y) := by
  unfold wpX_apply
  unfold tv_app at H
  have e2 : (2 : Int32) - nI x = nI (2 - x) := pk_sub (show x ≤ 2 by omega)
  have e3 : (2 : Int32) - nI x + nI y = nI (2 - x + y) := by rw [e2, nI_add]
  refine pk_eq tok 1 (fun e => pk_le y x (fun g => ?_) (fun g => ?_)) (fun e => pk_eq tok 2 (fun e' => pk_le x y (fun g => ?_) (fun g => ?_)) (fun e' => pk_eq lg 0 (fun u => pk_le 2 (2 - x + y) (fun g => ?_) (fun g => ?_) (hy := e3)) (fun u => pk_eq lg 1 (fun u' => pk_le (2 - x) y (fun g => ?_) (fun g => ?_) (hx := e2)) (fun u' => pk_lt y x (fun g => ?_) (fun g => ?_)))))
  · rw [tv_bt e, tv_lt g] at H
    exact H
  · rw [tv_bt e, tv_lf g] at H
    exact H
  · rw [tv_bf e, tv_bt e', tv_lt g] at H
    exact H
  · rw [tv_bf e, tv_bt e', tv_lf g] at H
    exact H
  · rw [tv_bf e, tv_bf e', tv_bt u, show Nat.ble 2 (Nat.add (Nat.sub 2 x) y) = true from tv_lt g] at H
    exact H
  · rw [tv_bf e, tv_bf e', tv_bt u, show Nat.ble 2 (Nat.add (Nat.sub 2 x) y) = false from tv_lf g] at H
    exact ek_v e3 H
  · rw [tv_bf e, tv_bf e', tv_bf u, tv_bt u', show Nat.ble (Nat.sub 2 x) y = true from tv_lt g] at H
    exact H
  · rw [tv_bf e, tv_bf e', tv_bf u, tv_bt u', show Nat.ble (Nat.sub 2 x) y = false from tv_lf g] at H
    exact ek_v e2 H
  · rw [tv_bf e, tv_bf e', tv_bf u, tv_bf u', tv_lf g] at H
    exact H
  · rw [tv_bf e, tv_bf e', tv_bf u, tv_bf u', tv_lt g] at H
    exact H
theorem tv_bn_s {post : Int32 → Prop} {lg v s x n : Nat} (hl : lg < 3) (hv : v < 128) (hs : s < 8) (hx : x < 3) (H : wX_beforeNot_4 post (nI v) (nI lg) f2 f3 f4 f5 f6 a1 a2 a3 a4 a5 a6 a7 a8 a9 a10 a11 a12 a13 a14 n (nI (tv_put v (tv_not lg x) s x)) (nI (x + 1))) : wX_beforeNot_4 post (nI v) (nI lg) f2 f3 f4 f5 f6 a1 a2 a3 a4 a5 a6 a7 a8 a9 a10 a11 a12 a13 a14 (n + 1) (nI s) (nI x) := by
  have hn : tv_not lg x < 3 := tv_not_l hx
  unfold tv_put at H
  refine pk_le 3 x (fun z => absurd z (by omega)) (fun _ => tv_not_ok hl hx (br_c (fun e => nm_r (nI_1 x) ?_) (fun e => nm_r (tv_or s hs x hx) (nm_r (nI_1 x) ?_))))
  · rw [tv_bt ((tv_b0 v hv _ hn).mp e)] at H
    exact H
  · rw [tv_bf (fun g => e ((tv_b0 v hv _ hn).mpr g))] at H
    exact H
theorem tv_bn_ok {post : Int32 → Prop} {lg v : Nat} (hl : lg < 3) (hv : v < 128) (H : post (nI (tv_bn lg v))) : wpX_beforeNot post (nI lg, f2, f3, f4, f5, f6, a1, a2, a3, a4, a5, a6, a7, a8, a9, a10, a11, a12, a13, a14) (nI v) := by
  unfold wpX_beforeNot
  refine ⟨4, ?_⟩
  exact tv_bn_s (s := 0) (x := 0) hl hv (by omega) (by omega) (tv_bn_s hl hv (tv_put_l (by omega) (by omega)) (by omega) (tv_bn_s hl hv (tv_put_l (tv_put_l (by omega) (by omega)) (by omega)) (by omega) (pk_le 3 3 (fun _ => H) (fun z => absurd z (by omega)))))
theorem tv_par_s {post : Int32 → Prop} {lg tok y v s x n : Nat} (hl : lg < 3) (ht : tok < 128) (hy : y < 3) (hv : v < 128) (hs : s < 8) (hx : x < 3) (H : wX_partners_6 post (nI tok) (nI y) (nI v) (nI lg) f2 f3 f4 f5 f6 a1 a2 a3 a4 a5 a6 a7 a8 a9 a10 a11 a12 a13 a14 n (nI (tv_put v (tv_app lg tok y x) s x)) (nI (x + 1))) : wX_partners_6 post (nI tok) (nI y) (nI v) (nI lg) f2 f3 f4 f5 f6 a1 a2 a3 a4 a5 a6 a7 a8 a9 a10 a11 a12 a13 a14 (n + 1) (nI s) (nI x) := by
  have hn : tv_app lg tok y x < 3 := tv_app_l hy hx
  unfold tv_put at H
  refine pk_le 3 x (fun z => absurd z (by omega)) (fun _ => tv_app_ok hl ht hy hx (br_c (fun e => nm_r (nI_1 x) ?_) (fun e => nm_r (tv_or s hs x hx) (nm_r (nI_1 x) ?_))))
  · rw [tv_bt ((tv_b0 v hv _ hn).mp e)] at H
    exact H
  · rw [tv_bf (fun g => e ((tv_b0 v hv _ hn).mpr g))] at H
    exact H
theorem tv_par_ok {post : Int32 → Prop} {lg tok y v : Nat} (hl : lg < 3) (ht : tok < 128) (hy : y < 3) (hv : v < 128) (H : post (nI (tv_par lg tok y v))) : wpX_partners post (nI lg, f2, f3, f4, f5, f6, a1, a2, a3, a4, a5, a6, a7, a8, a9, a10, a11, a12, a13, a14) (nI tok) (nI y) (nI v) := by
  unfold wpX_partners
  refine ⟨4, ?_⟩
  exact tv_par_s (s := 0) (x := 0) hl ht hy hv (by omega) (by omega) (tv_par_s hl ht hy hv (tv_put_l (by omega) (by omega)) (by omega) (tv_par_s hl ht hy hv (tv_put_l (tv_put_l (by omega) (by omega)) (by omega)) (by omega) (pk_le 3 3 (fun _ => H) (fun z => absurd z (by omega)))))
/-! ===== demands ===== -/
theorem tv_demand_ok {post : St2 → Prop} {f1 p0 p1 : Int32} {dm : Nat} (c v : Nat) (ec : p0 = nI c) (ev : p1 = nI v) (hd : dm < 32) (hc : c < 128) (hv : v < 128) (H : post (f1, f2, nI (dm + 1), f4, f5, f6, a1, a2, a3, a4, a5, upd a6 dm (nI c), upd a7 dm (nI v), a8, a9, a10, a11, a12, a13, a14)) : wpX_demand post (f1, f2, nI dm, f4, f5, f6, a1, a2, a3, a4, a5, a6, a7, a8, a9, a10, a11, a12, a13, a14) p0 p1 := by
  subst ec ev
  unfold wpX_demand
  exact pk_le 32 dm (fun z => absurd z (by omega)) (fun _ => ⟨pk_in dm 32 hd, nm_r (by rw [pk_cl dm, tv_nb c hc]) ⟨pk_in dm 32 hd, nm_r (by rw [pk_cl dm, tv_nb v hv]) (nm_r (nI_1 dm) H)⟩⟩)
theorem tv_go_ok {post : Int32 → St2 → Prop} {lg t1 : Nat} {k : Nat → Nat → Nat → Nat → Nat → Nat → Bool} (hl : lg < 3) (h1 : tv_ag 18 a1 t1)
    (H : ∀ (st dm hd t6 t7 t8 : Nat) (b6 b7 b8 : Nat → Int32), st ≤ 2 → dm ≤ 32 → hd ≤ 32 → tv_ag dm b6 t6 → tv_ag dm b7 t7 → tv_ag 4 b8 t8 → k st dm hd t6 t7 t8 = true → post (nI st) (nI lg, f2, nI dm, nI hd, f5, f6, a1, a2, a3, a4, a5, b6, b7, b8, a9, a10, a11, a12, a13, a14)) :
    ∀ (n dm hd t6 t7 t8 : Nat) (a6 a7 a8 : Nat → Int32), dm ≤ 32 → hd ≤ 32 → tv_ag dm a6 t6 → tv_ag dm a7 t7 → tv_ag 4 a8 t8 → tv_go lg t1 k n dm hd t6 t7 t8 = true → wX_goOn_0 post n (nI lg) f2 (nI dm) (nI hd) f5 f6 a1 a2 a3 a4 a5 a6 a7 a8 a9 a10 a11 a12 a13 a14 := by
  intro n
  induction n with
  | zero =>
    intro dm hd t6 t7 t8 a6 a7 a8 _ _ _ _ _ h
    exact absurd (show false = true from h) (by decide)
  | succ n ih =>
    intro dm hd t6 t7 t8 a6 a7 a8 hdm hhd g6 g7 g8 h
    unfold tv_go at h
    refine tv_le h (fun z h => br_t (nI_le z (by omega)) (H 1 dm hd t6 t7 t8 a6 a7 a8 (by omega) hdm hhd g6 g7 g8 h)) (fun z h => ?_)
    obtain ⟨y31, h⟩ := tv_as h
    obtain ⟨y17, h⟩ := tv_as h
    obtain ⟨b6, e6⟩ := g6 hd z
    obtain ⟨b7, e7⟩ := g7 hd z
    obtain ⟨b1, e1⟩ := h1 (tv_g t6 hd) (by omega)
    have hb : tv_bn lg (tv_g t7 hd) < 8 := tv_bn_l _ _
    generalize tv_g t6 hd = c at *
    generalize tv_g t1 c = tok at *
    generalize tv_g t7 hd = v at *
    refine br_f (nI_ge z (by omega)) ⟨pk_in hd 32 (by omega), nm_r (e' := nI c) (by rw [pk_cl hd]; exact e6) ⟨pk_in c 18 (by omega), nm_r (e' := nI tok) (by rw [pk_cl c]; exact e1) ?_⟩⟩
    refine tv_le h (fun w h => ?_) (fun w h => ?_)
    · obtain ⟨w7, h⟩ := tv_as h
      obtain ⟨b8, e8⟩ := g8 (tok - 4) (by omega)
      have h' : cond (Nat.beq (tv_g t8 (tok - 4) &&& v) 0) (k 0 dm hd t6 t7 (tv_s t8 (tok - 4) 0)) (tv_go lg t1 k n dm (hd + 1) t6 t7 (tv_s t8 (tok - 4) (tv_g t8 (tok - 4) &&& v))) = true := h
      have hv : tv_g t8 (tok - 4) &&& v < 128 := Nat.lt_of_le_of_lt Nat.and_le_left b8
      generalize tv_g t8 (tok - 4) = l at *
      refine br_f (nI_nlt w (by omega)) (nm_r (e' := nI (tok - 4)) (pk_sub w) ⟨pk_in (tok - 4) 4 (by omega), pk_in hd 32 (by omega), pk_in (tok - 4) 4 (by omega), nm_r (e' := upd a8 (tok - 4) (nI (l &&& v))) (by rw [pk_cl (tok - 4), pk_cl hd, e8, e7, tv_nx, tv_nb _ hv]) ⟨pk_in (tok - 4) 4 (by omega), ?_⟩⟩)
      refine tv_eq h' (fun u h => br_t (by rw [pk_cl (tok - 4), pk_us, u]; rfl) (H 0 dm hd t6 t7 _ a6 a7 _ (by omega) hdm hhd g6 g7 ?_ h)) (fun u h => br_f (by rw [pk_cl (tok - 4), pk_us]; exact nI_ne0 (by omega) (by omega)) (nm_r (nI_1 hd) (ih dm (hd + 1) t6 t7 _ a6 a7 _ hdm (by omega) g6 g7 (tv_ag_set g8 hv) h)))
      rw [u]
      exact tv_ag_set g8 (by omega)
    · refine br_t (nI_lt (b := 4) w (by decide)) ?_
      refine tv_eq h (fun u h => ?_) (fun u h => br_f (by rw [← nI_0, nI_eq (by omega) (by omega)]; exact u) (H 2 dm hd t6 t7 t8 a6 a7 a8 (by omega) hdm hhd g6 g7 g8 h))
      refine br_t (by rw [u]; rfl) ⟨pk_in hd 32 (by omega), ek_v (by rw [pk_cl hd, e7]) (tv_bn_ok hl b7 ?_)⟩
      refine tv_eq h (fun r h => br_t (by rw [r]; rfl) (H 0 dm hd t6 t7 t8 a6 a7 a8 (by omega) hdm hhd g6 g7 g8 h)) (fun r h => br_f (nI_ne0 (by omega) (by omega)) ?_)
      obtain ⟨s, h⟩ := tv_as h
      refine tv_demand_ok (c + 1) (tv_bn lg v) (nI_1 c) rfl (by omega) (by omega) (by omega) (nm_r (nI_1 hd) ?_)
      exact ih (dm + 1) (hd + 1) _ _ t8 _ _ a8 (by omega) (by omega) (tv_ag_push g6 (show c + 1 < 128 by omega)) (tv_ag_push g7 (show tv_bn lg v < 128 by omega)) g8 h
end
end
section
section
variable {f2 f3 f4 f5 f6 : Int32} {a1 a2 a3 a4 a5 a6 a7 a8 a9 a10 a11 a12 a13 a14 : Nat → Int32}
theorem tv_cl (n : Nat) (h : n < 2 ^ 31 := by omega) : (nI n).toNatClampNeg = n := nI_clamp h
theorem tv_ix (lv i : Nat) : nI lv * 4 + nI i = nI (lv * 4 + i) := by
  rw [show (4 : Int32) = nI 4 from rfl, pk_mul, nI_add]
/-! ===== nextTurn ===== -/
theorem tv_turn_ok {post : Int32 → St2 → Prop} {lg lv c h d tok v sec : Nat} {k0 : Bool} {k1 : Nat → Nat → Bool} (hl : lg < 3) (hlv : lv < 12) (hc : c < 18) (hh : h < 32) (hd : d ≤ 30) (ht : tok < 128) (hv : v < 128) (hs : sec < 128)
    (e1 : a1 c = nI tok) (e7 : a7 h = nI v) (e3 : a3 c = nI sec)
    (H0 : k0 = true → post 0 (nI lg, f2, nI d, nI h, f5, f6, a1, a2, a3, a4, a5, a6, a7, a8, a9, a10, a11, a12, a13, a14))
    (H1 : ∀ y fit : Nat, y < 3 → fit < 8 → k1 y fit = true → post 1 (nI lg, f2, nI (d + 1 + 1), nI (h + 1), f5, f6, a1, a2, a3, a4, a5, upd (upd a6 d (nI (c + 1))) (d + 1) (nI sec), upd (upd a7 d (nI (Nat.shiftLeft 1 y))) (d + 1) (nI fit), a8, a9, a10, a11, upd a12 lv (nI y), a13, a14)) :
    ∀ n x : Nat, x ≤ 3 → tv_turn lg tok v k0 k1 n x = true → wX_nextTurn_68 post (nI lv) (nI c) (nI lg) f2 (nI d) (nI h) f5 f6 a1 a2 a3 a4 a5 a6 a7 a8 a9 a10 a11 a12 a13 a14 n (nI x) := by
  intro n
  induction n with
  | zero =>
    intro x _ h
    exact absurd (show false = true from h) (by decide)
  | succ n ih =>
    intro x hx g
    unfold tv_turn at g
    refine tv_le g (fun z g => br_t (nI_le z (by omega)) (H0 g)) (fun z g => br_f (nI_ge (b := 3) z (by decide)) ⟨pk_in c 18 hc, pk_in h 32 hh, ?_⟩)
    rw [tv_cl c, tv_cl h, e1, e7]
    have hp : tv_par lg tok x v < 8 := tv_par_l _ _ _ _
    refine tv_par_ok hl ht z hv ?_
    refine tv_eq g (fun r g => br_t (by rw [r]; rfl) (nm_r (nI_1 x) (ih (x + 1) (by omega) g))) (fun r g => br_f (nI_ne0 (by omega) (by omega)) ⟨pk_in lv 12 hlv, nm_r (e' := upd a12 lv (nI x)) (by rw [pk_cl lv, tv_nb x (by omega)]) ?_⟩)
    have hsl : Nat.shiftLeft 1 x < 8 := tv_shl x z
    refine tv_demand_ok (c + 1) (Nat.shiftLeft 1 x) (nI_1 c) (tv_sh x z) (by omega) (by omega) (Nat.lt_trans hsl (by decide)) ⟨pk_in c 18 hc, ?_⟩
    exact tv_demand_ok sec (tv_par lg tok x v) e3 rfl (by omega) hs (by omega) (nm_r (nI_1 h) (H1 x _ z hp g))
theorem tv_nt_ok {post : Int32 → St2 → Prop} {p0 : Int32} {lg lv c h d x t : Nat} (ep : p0 = nI lv) (hlv : lv < 12) (hh : h < 32)
    (e9 : a9 lv = nI d) (e10 : a10 lv = nI h) (e12 : a12 lv + 1 = nI x) (e11 : ∀ l, l < 4 → tv_g t l < 128 ∧ a11 (lv * 4 + l) = nI (tv_g t l)) (e6 : a6 h = nI c)
    (H : ∀ b8, tv_ag 4 b8 t → wX_nextTurn_68 post (nI lv) (nI c) (nI lg) f2 (nI d) (nI h) f5 f6 a1 a2 a3 a4 a5 a6 a7 b8 a9 a10 a11 a12 a13 a14 4 (nI x)) : wpX_nextTurn post (nI lg, f2, f3, f4, f5, f6, a1, a2, a3, a4, a5, a6, a7, a8, a9, a10, a11, a12, a13, a14) p0 := by
  subst ep
  unfold wpX_nextTurn
  refine ⟨pk_in lv 12 hlv, nm_r (e' := nI d) (by rw [pk_cl lv]; exact e9) ⟨pk_in lv 12 hlv, nm_r (e' := nI h) (by rw [pk_cl lv]; exact e10) ?_⟩⟩
  exact pk_loop (fun n i s => wX_nextTurn_22 post (nI lv) (nI lg) f2 (nI d) (nI h) f5 f6 n (nI i) a1 a2 a3 a4 a5 a6 a7 s a9 a10 a11 a12 a13 a14) (fun i s => tv_ag i s t) 4 0 a8 (by omega) tv_ag_z
    (fun n s hs => pk_le 4 4 (fun _ => ⟨pk_in h 32 hh, nm_r (e' := nI c) (by rw [pk_cl h]; exact e6) ⟨pk_in lv 12 hlv, nm_r (e' := nI x) (by rw [pk_cl lv]; exact e12) ⟨4, H s hs⟩⟩⟩) (fun z => absurd z (by omega)))
    (fun n i s hi hs hw => pk_le 4 i (fun z => absurd z (by omega)) (fun _ => ⟨pk_in (lv * 4 + i) 48 (by omega) (tv_ix lv i), pk_in i 4 hi, nm_r (e' := upd s i (nI (tv_g t i))) (by rw [tv_ix, tv_cl i, tv_cl (lv * 4 + i), (e11 i hi).2, tv_nv _ (e11 i hi).1]) (nm_r (nI_1 i) (hw _ (tv_ag_cp hs (e11 i hi).1)))⟩))
/-! ===== a branch begins ===== -/
theorem tv_open_ok {post : St2 → Prop} {lg lv dm hd t8 : Nat} (hlv : lv < 12) (hdm : dm ≤ 32) (hhd : hd ≤ 32) (g8 : tv_ag 4 a8 t8)
    (H : ∀ b11, (∀ i, i < lv * 4 → b11 i = a11 i) → (∀ l, l < 4 → b11 (lv * 4 + l) = nI (tv_g t8 l)) → post (nI lg, f2, nI dm, nI hd, f5, f6, a1, a2, a3, a4, a5, a6, a7, a8, upd a9 lv (nI dm), upd a10 lv (nI hd), b11, upd a12 lv (-1), a13, a14)) : wpX_open post (nI lg, f2, nI dm, nI hd, f5, f6, a1, a2, a3, a4, a5, a6, a7, a8, a9, a10, a11, a12, a13, a14) (nI lv) := by
  unfold wpX_open
  refine ⟨pk_in lv 12 hlv, nm_r (e' := upd a9 lv (nI dm)) (by rw [pk_cl lv, tv_nb dm (by omega)]) ⟨pk_in lv 12 hlv, nm_r (e' := upd a10 lv (nI hd)) (by rw [pk_cl lv, tv_nb hd (by omega)]) ⟨pk_in lv 12 hlv, nm_r (e' := upd a12 lv (-1)) (by rw [pk_cl lv]) ?_⟩⟩⟩
  exact pk_loop (fun n i s => wX_open_31 post (nI lv) (nI lg) f2 (nI dm) (nI hd) f5 f6 n (nI i) a1 a2 a3 a4 a5 a6 a7 a8 (upd a9 lv (nI dm)) (upd a10 lv (nI hd)) s (upd a12 lv (-1)) a13 a14)
    (fun i s => (∀ j, j < lv * 4 → s j = a11 j) ∧ ∀ l, l < i → s (lv * 4 + l) = nI (tv_g t8 l)) 4 0 a11 (by omega) ⟨fun _ _ => rfl, fun l hl => absurd hl (by omega)⟩
    (fun n s hs => pk_le 4 4 (fun _ => H s hs.1 hs.2) (fun z => absurd z (by omega)))
    (fun n i s hi hs hw => pk_le 4 i (fun z => absurd z (by omega)) (fun _ => ⟨pk_in i 4 hi, pk_in (lv * 4 + i) 48 (by omega) (tv_ix lv i), nm_r (e' := upd s (lv * 4 + i) (nI (tv_g t8 i))) (by rw [tv_ix, tv_cl i, tv_cl (lv * 4 + i), (g8 i hi).2, tv_nv _ (g8 i hi).1]) (nm_r (nI_1 i) (hw _ ⟨fun j hj => by rw [pk_un (by omega)]; exact hs.1 j hj, fun l hl => by
      by_cases e : l = i
      · rw [e, pk_us]
      · rw [pk_un (by omega)]
        exact hs.2 l (by omega)⟩))⟩))
/-! ===== the branches that are not left yet ===== -/
def tv_st (a9 a10 a11 a12 : Nat → Int32) : List (Nat × Nat × Nat × Nat) → Prop
  | [] => True
  | (d, h, x, t) :: s => a9 s.length = nI d ∧ a10 s.length = nI h ∧ x ≤ 3 ∧ a12 s.length + 1 = nI x ∧ (∀ l, l < 4 → tv_g t l < 128 ∧ a11 (s.length * 4 + l) = nI (tv_g t l)) ∧ tv_st a9 a10 a11 a12 s
theorem tv_st_k {b9 b10 b11 b12 : Nat → Int32} : ∀ s : List (Nat × Nat × Nat × Nat), (∀ i, i < s.length → b9 i = a9 i) → (∀ i, i < s.length → b10 i = a10 i) → (∀ i, i < s.length * 4 → b11 i = a11 i) → (∀ i, i < s.length → b12 i = a12 i) → tv_st a9 a10 a11 a12 s → tv_st b9 b10 b11 b12 s
  | [], _, _, _, _, _ => trivial
  | (d, h, x, t) :: s, k9, k10, k11, k12, ⟨e9, e10, hx, e12, e11, r⟩ => by
    have q : ((d, h, x, t) :: s).length = s.length + 1 := rfl
    rw [q] at k9 k10 k11 k12
    refine ⟨by rw [k9 _ (by omega)]; exact e9, by rw [k10 _ (by omega)]; exact e10, hx, by rw [k12 _ (by omega)]; exact e12, fun l hl => ⟨(e11 l hl).1, by rw [k11 _ (by omega)]; exact (e11 l hl).2⟩, ?_⟩
    exact tv_st_k s (fun i hi => k9 i (by omega)) (fun i hi => k10 i (by omega)) (fun i hi => k11 i (by omega)) (fun i hi => k12 i (by omega)) r
theorem tv_back_ok {post : Int32 → St2 → Prop} {J : Int32 → Int32 → Int32 → Int32 → Int32 → Int32 → Int32 → Int32 → Int32 → (Nat → Int32) → (Nat → Int32) → (Nat → Int32) → (Nat → Int32) → (Nat → Int32) → (Nat → Int32) → (Nat → Int32) → (Nat → Int32) → (Nat → Int32) → (Nat → Int32) → (Nat → Int32) → (Nat → Int32) → (Nat → Int32) → (Nat → Int32) → Prop} {x3 : Int32}
    {lg t1 t3 t6 t7 : Nat} {k0 : Bool} {k1 : Nat → Nat → Nat → Nat → Nat → List (Nat × Nat × Nat × Nat) → Bool} (hl : lg < 3) (h1 : tv_ag 18 a1 t1) (h3 : tv_ag 18 a3 t3)
    (H0 : k0 = true → ∀ (f3 f4 : Int32) (b8 : Nat → Int32), post 0 (nI lg, f2, f3, f4, f5, f6, a1, a2, a3, a4, a5, a6, a7, b8, a9, a10, a11, a12, a13, a14))
    (H1 : ∀ (dm hd t6' t7' t8 : Nat) (stk : List (Nat × Nat × Nat × Nat)) (b6 b7 b8 b12 : Nat → Int32), dm ≤ 32 → hd ≤ 32 → tv_ag dm b6 t6' → tv_ag dm b7 t7' → tv_ag 4 b8 t8 → tv_st a9 a10 a11 b12 stk → stk.length ≤ 12 → k1 dm hd t6' t7' t8 stk = true → wX_meets_139 post J (nI stk.length) x3 1 (nI lg) f2 (nI dm) (nI hd) f5 f6 a1 a2 a3 a4 a5 b6 b7 b8 a9 a10 a11 b12 a13 a14) :
    ∀ (stk : List (Nat × Nat × Nat × Nat)) (dm : Nat) (f3 f4 : Int32) (a8 : Nat → Int32), tv_ag dm a6 t6 → tv_ag dm a7 t7 → dm ≤ 32 → stk.length ≤ 12 → tv_st a9 a10 a11 a12 stk → tv_back lg t1 t3 t6 t7 k0 k1 stk dm = true → wX_meets_110 post J x3 (stk.length + 2) (nI stk.length) 0 (nI lg) f2 f3 f4 f5 f6 a1 a2 a3 a4 a5 a6 a7 a8 a9 a10 a11 a12 a13 a14 := by
  intro stk
  induction stk with
  | nil =>
    intro dm f3 f4 a8 _ _ _ _ _ h
    exact pk_le 0 0 (fun _ => br_t rfl (H0 h f3 f4 a8)) (fun z => absurd z (by omega))
  | cons fr s ih =>
    obtain ⟨d, h, x, t⟩ := fr
    intro dm f3 f4 a8 g6 g7 hdm hlen hst g
    have hlen' : s.length + 1 ≤ 12 := hlen
    obtain ⟨e9, e10, hx, e12, e11, r⟩ := hst
    unfold tv_back at g
    obtain ⟨y1, g⟩ := tv_as g
    obtain ⟨y2, g⟩ := tv_as g
    obtain ⟨y3, g⟩ := tv_as g
    obtain ⟨y4, g⟩ := tv_as g
    obtain ⟨y5, g⟩ := tv_as g
    have y2' : h + 1 ≤ d := y2
    obtain ⟨b6, e6⟩ := g6 h (by omega)
    obtain ⟨b7, e7⟩ := g7 h (by omega)
    obtain ⟨b1, e1⟩ := h1 (tv_g t6 h) (by omega)
    obtain ⟨b3, e3⟩ := h3 (tv_g t6 h) (by omega)
    have np : ¬ nI (s.length + 1) ≤ 0 := nI_nle (by omega) (by omega)
    refine br_f np (br_t rfl (tv_nt_ok (lv := s.length) (nI_pred s.length) (by omega) (by omega) e9 e10 e12 e11 e6 (fun b8 g8 => ?_)))
    refine tv_turn_ok hl (by omega) (by omega) (by omega) y3 b1 b7 b3 e1 e7 e3 (fun g => br_t rfl (nm_r (pk_m1 s.length) (ih d (nI d) (nI h) b8 (tv_ag_le g6 y1) (tv_ag_le g7 y1) (by omega) (by omega) r g))) (fun y fit hy hf g => br_f (by decide) (br_f np (br_f (by decide) ?_))) 4 x hx g
    have hsl : Nat.shiftLeft 1 y < 8 := tv_shl y hy
    refine H1 (d + 2) (h + 1) _ _ t ((d, h, y + 1, t) :: s) _ _ b8 _ (by omega) (by omega) (tv_ag_push (tv_ag_push (tv_ag_le g6 y1) (show tv_g t6 h + 1 < 128 by omega)) b3) (tv_ag_push (tv_ag_push (tv_ag_le g7 y1) (Nat.lt_trans hsl (by decide))) (show fit < 128 by omega)) g8 ?_ hlen g
    exact ⟨e9, e10, by omega, by rw [pk_us, nI_1], e11, tv_st_k s (fun _ _ => rfl) (fun _ _ => rfl) (fun _ _ => rfl) (fun i hi => pk_un (by omega)) r⟩
/-! ===== meets ===== -/
theorem tv_main_ok {post : Int32 → St2 → Prop} {lg t1 t3 : Nat} {k : Nat → Bool} (hl : lg < 3) (h1 : tv_ag 18 a1 t1) (h3 : tv_ag 18 a3 t3)
    (H : ∀ (r : Nat) (f3 f4 : Int32) (b6 b7 b8 b9 b10 b11 b12 : Nat → Int32), r ≤ 1 → k r = true → post (nI r) (nI lg, f2, f3, f4, f5, f6, a1, a2, a3, a4, a5, b6, b7, b8, b9, b10, b11, b12, a13, a14)) :
    ∀ (n rd st dm hd t6 t7 t8 : Nat) (stk : List (Nat × Nat × Nat × Nat)) (a6 a7 a8 a9 a10 a11 a12 : Nat → Int32), rd + n ≤ 32768 → st ≤ 2 → dm ≤ 32 → hd ≤ 32 → tv_ag dm a6 t6 → tv_ag dm a7 t7 → tv_ag 4 a8 t8 → tv_st a9 a10 a11 a12 stk → stk.length ≤ 12 → tv_main lg t1 t3 k n st dm hd t6 t7 t8 stk = true →
      wX_meets_81 post n (nI stk.length) (nI st) (nI rd) (nI lg) f2 (nI dm) (nI hd) f5 f6 a1 a2 a3 a4 a5 a6 a7 a8 a9 a10 a11 a12 a13 a14 := by
  intro n
  induction n with
  | zero =>
    intro rd st dm hd t6 t7 t8 stk a6 a7 a8 a9 a10 a11 a12 _ _ _ _ _ _ _ _ _ h
    exact absurd (show false = true from h) (by decide)
  | succ n ih =>
    intro rd st dm hd t6 t7 t8 stk a6 a7 a8 a9 a10 a11 a12 hrd hst hdm hhd g6 g7 g8 gs hlen h
    unfold tv_main at h
    refine pk_le 32768 rd (fun z => absurd z (by omega)) (fun _ => ?_)
    have J1 : ∀ (a9 a10 a11 : Nat → Int32) (dm hd t6' t7' t8 : Nat) (stk : List (Nat × Nat × Nat × Nat)) (b6 b7 b8 b12 : Nat → Int32), dm ≤ 32 → hd ≤ 32 → tv_ag dm b6 t6' → tv_ag dm b7 t7' → tv_ag 4 b8 t8 → tv_st a9 a10 a11 b12 stk → stk.length ≤ 12 → tv_go lg t1 (fun st'' dm'' hd'' t6'' t7'' t8'' => tv_main lg t1 t3 k n st'' dm'' hd'' t6'' t7'' t8'' stk) 40 dm hd t6' t7' t8 = true → wX_meets_139 post (wX_meets_81 post n) (nI stk.length) (nI rd) 1 (nI lg) f2 (nI dm) (nI hd) f5 f6 a1 a2 a3 a4 a5 b6 b7 b8 a9 a10 a11 b12 a13 a14 := by
      intro a9 a10 a11 dm hd t6' t7' t8 stk b6 b7 b8 b12 hdm hhd g6 g7 g8 gs hlen h
      refine br_f (by decide) ⟨40, tv_go_ok hl h1 ?_ 40 dm hd t6' t7' t8 b6 b7 b8 hdm hhd g6 g7 g8 h⟩
      intro st dm hd t6 t7 t8 b6 b7 b8 hst hdm hhd g6 g7 g8 h
      exact nm_r (nI_1 rd) (ih (rd + 1) st dm hd t6 t7 t8 stk b6 b7 b8 a9 a10 a11 b12 (by omega) hst hdm hhd g6 g7 g8 gs hlen h)
    refine tv_eq h (fun e h => br_t (by rw [e]; rfl) (H 1 _ _ _ _ _ _ _ _ _ (by omega) h)) (fun e h => br_f (by rw [show (1 : Int32) = nI 1 from rfl, nI_eq (by omega) (by omega)]; exact e) ?_)
    refine tv_eq h (fun e2 h => br_t (by rw [e2]; rfl) ?_) (fun e2 h => br_f (by rw [show (2 : Int32) = nI 2 from rfl, nI_eq (by omega) (by omega)]; exact e2) ?_)
    · obtain ⟨y, h⟩ := tv_as h
      obtain ⟨_, h⟩ := tv_as h
      obtain ⟨_, h⟩ := tv_as h
      refine tv_open_ok (by omega) hdm hhd g8 (fun b11 k1 k2 => nm_r (nI_1 stk.length) ⟨stk.length + 1 + 2, ?_⟩)
      refine tv_back_ok hl h1 h3 (fun h f3 f4 b8 => H 0 _ _ _ _ _ _ _ _ _ (by omega) h) (J1 _ _ _) ((dm, hd, 0, t8) :: stk) dm _ _ _ g6 g7 hdm (show stk.length + 1 ≤ 12 by omega) ?_ h
      exact ⟨pk_us, pk_us, by omega, by rw [pk_us]; rfl, fun l hl => ⟨(g8 l hl).1, k2 l hl⟩, tv_st_k stk (fun i hi => pk_un (by omega)) (fun i hi => pk_un (by omega)) k1 (fun i hi => pk_un (by omega)) gs⟩
    · exact ⟨stk.length + 2, tv_back_ok hl h1 h3 (fun h f3 f4 b8 => H 0 _ _ _ _ _ _ _ _ _ (by omega) h) (J1 _ _ _) stk dm _ _ _ g6 g7 hdm hlen gs h⟩
theorem tv_m3_ok {post : Int32 → St2 → Prop} {lg t1 t3 t13 : Nat} {k : Nat → Bool} (hl : lg < 3) (h1 : tv_ag 18 a1 t1) (h3 : tv_ag 18 a3 t3) (h13 : tv_ag 4 a13 t13)
    (H : ∀ (r : Nat) (f3 f4 : Int32) (b6 b7 b8 b9 b10 b11 b12 : Nat → Int32), r ≤ 1 → k r = true → post (nI r) (nI lg, f2, f3, f4, f5, f6, a1, a2, a3, a4, a5, b6, b7, b8, b9, b10, b11, b12, a13, a14))
    {dm t6 t7 : Nat} (hdm : dm ≤ 32) (g6 : tv_ag dm a6 t6) (g7 : tv_ag dm a7 t7) (h : tv_m3 lg t1 t3 t13 k dm t6 t7 = true) : ∃ fu, wX_meets_49 post (nI lg) f2 (nI dm) 0 f5 f6 fu 0 a1 a2 a3 a4 a5 a6 a7 a8 a9 a10 a11 a12 a13 a14 :=
  pk_loop (fun n i s => wX_meets_49 post (nI lg) f2 (nI dm) 0 f5 f6 n (nI i) a1 a2 a3 a4 a5 a6 a7 s a9 a10 a11 a12 a13 a14) (fun i s => tv_ag i s t13) 4 0 a8 (by omega) tv_ag_z
    (fun n s hs => pk_le 4 4 (fun _ => ⟨40, tv_go_ok (t1 := t1) hl h1 (fun st dm hd t6 t7 t8 b6 b7 b8 hst hdm hhd g6 g7 g8 h => ⟨200, tv_main_ok hl h1 h3 H 200 0 st dm hd t6 t7 t8 [] b6 b7 b8 _ _ _ _ (by omega) hst hdm hhd g6 g7 g8 trivial (by decide) h⟩) 40 dm 0 t6 t7 t13 a6 a7 s hdm (by omega) g6 g7 hs h⟩) (fun z => absurd z (by omega)))
    (fun n i s hi hs hw => pk_le 4 i (fun z => absurd z (by omega)) (fun _ => ⟨pk_in i 4 hi, pk_in i 4 hi, nm_r (e' := upd s i (nI (tv_g t13 i))) (by rw [pk_cl i, (h13 i hi).2, tv_nv _ (h13 i hi).1]) (nm_r (nI_1 i) (hw _ (tv_ag_cp hs (h13 i hi).1)))⟩))
theorem tv_m2_ok {post : Int32 → St2 → Prop} {lg t1 t3 ov t13 : Nat} {k : Nat → Bool} (hl : lg < 3) (h1 : tv_ag 18 a1 t1) (h3 : tv_ag 18 a3 t3) (h13 : tv_ag 4 a13 t13) (ho : ov < 128)
    (H : ∀ (r : Nat) (f3 f4 : Int32) (b6 b7 b8 b9 b10 b11 b12 : Nat → Int32), r ≤ 1 → k r = true → post (nI r) (nI lg, f2, f3, f4, f5, nI ov, a1, a2, a3, a4, a5, b6, b7, b8, b9, b10, b11, b12, a13, a14))
    {dm t6 t7 : Nat} (hdm : dm ≤ 1) (g6 : tv_ag dm a6 t6) (g7 : tv_ag dm a7 t7) (h : tv_m2 lg t1 t3 ov t13 k dm t6 t7 = true) : wX_meets_28 post (nI lg) f2 (nI dm) 0 f5 (nI ov) a1 a2 a3 a4 a5 a6 a7 a8 a9 a10 a11 a12 a13 a14 := by
  unfold tv_m2 at h
  refine tv_eq h (fun e h => br_t (by rw [e]; rfl) (tv_m3_ok hl h1 h3 h13 H (by omega) g6 g7 h)) (fun e h => br_f (by rw [show (7 : Int32) = nI 7 from rfl, nI_eq (by omega) (by omega)]; exact e) ?_)
  exact tv_demand_ok 9 ov rfl rfl (by omega) (by omega) ho (tv_m3_ok hl h1 h3 h13 H (show dm + 1 ≤ 32 by omega) (tv_ag_push g6 (by omega)) (tv_ag_push g7 ho) h)
theorem tv_meets_ok {post : Int32 → St2 → Prop} {lg t1 t3 fv ov t13 : Nat} {k : Nat → Bool} (hl : lg < 3) (h1 : tv_ag 18 a1 t1) (h3 : tv_ag 18 a3 t3) (h13 : tv_ag 4 a13 t13) (hf : fv < 128) (ho : ov < 128)
    (h : tv_meets lg t1 t3 fv ov t13 k = true)
    (H : ∀ (r : Nat) (f3 f4 : Int32) (b6 b7 b8 b9 b10 b11 b12 : Nat → Int32), r ≤ 1 → k r = true → post (nI r) (nI lg, f2, f3, f4, nI fv, nI ov, a1, a2, a3, a4, a5, b6, b7, b8, b9, b10, b11, b12, a13, a14)) : wpX_meets post (nI lg, f2, f3, f4, nI fv, nI ov, a1, a2, a3, a4, a5, a6, a7, a8, a9, a10, a11, a12, a13, a14) := by
  unfold tv_meets at h
  unfold wpX_meets
  refine tv_eq h (fun e h => br_t (by rw [e]; rfl) (tv_m2_ok (dm := 0) hl h1 h3 h13 ho H (by omega) tv_ag_z tv_ag_z h)) (fun e h => br_f (by rw [show (7 : Int32) = nI 7 from rfl, nI_eq (by omega) (by omega)]; exact e) ?_)
  exact tv_demand_ok (dm := 0) 0 fv rfl rfl (by omega) (by omega) hf (tv_m2_ok (dm := 1) hl h1 h3 h13 ho H (by omega) (tv_ag_push tv_ag_z (by omega)) (tv_ag_push tv_ag_z hf) h)
end
end
section
section
variable {f1 f2 f3 f4 f5 f6 : Int32} {a1 a2 a3 a4 a5 a6 a7 a8 a9 a10 a11 a12 a13 a14 : Nat → Int32}
/-- the answer r in any state that holds the formulas t1, their sizes t2 and the second parts t3 -/
def tv_W (post : Int32 → St2 → Prop) (f1 : Int32) (t1 t2 t3 : Nat) (r : Int32) : Prop :=
  ∀ (f2 f3 f4 f5 f6 : Int32) (a1 a2 a3 a4 a5 a6 a7 a8 a9 a10 a11 a12 a13 a14 : Nat → Int32), tv_ag 18 a1 t1 → tv_ag 2 a2 t2 → tv_ag 18 a3 t3 → post r (f1, f2, f3, f4, f5, f6, a1, a2, a3, a4, a5, a6, a7, a8, a9, a10, a11, a12, a13, a14)
theorem tv_Wa {post : Int32 → St2 → Prop} {t1 t2 t3 : Nat} {r : Int32} (q : tv_W post f1 t1 t2 t3 r) (g1 : tv_ag 18 a1 t1) (g2 : tv_ag 2 a2 t2) (g3 : tv_ag 18 a3 t3) : post r (f1, f2, f3, f4, f5, f6, a1, a2, a3, a4, a5, a6, a7, a8, a9, a10, a11, a12, a13, a14) :=
  q _ _ _ _ _ _ _ _ _ _ _ _ _ _ _ _ _ _ _ g1 g2 g3
/-! ===== attach, read, complete ===== -/
theorem tv_at2_ok {post : St2 → Prop} {top w oc t3 t4 t5 : Nat} {k : Nat → Nat → Nat → Bool} (ht : top + 1 = oc) (ho : oc ≤ 10) (hw : w < 127) (e5 : a5 top = nI (w + 1)) (g3 : tv_ag 18 a3 t3) (g4 : tv_ag oc a4 t4) (g5 : tv_ag oc a5 t5)
    (h : tv_at2 top w oc t3 t5 k = true)
    (H : ∀ (oc t3 t5 : Nat) (b3 b5 : Nat → Int32), oc ≤ 10 → tv_ag 18 b3 t3 → tv_ag oc a4 t4 → tv_ag oc b5 t5 → k oc t3 t5 = true → post (f1, nI oc, f3, f4, f5, f6, a1, a2, b3, a4, b5, a6, a7, a8, a9, a10, a11, a12, a13, a14)) : wX_attach_32 post (nI top) f1 (nI oc) f3 f4 f5 f6 a1 a2 a3 a4 a5 a6 a7 a8 a9 a10 a11 a12 a13 a14 := by
  unfold tv_at2 at h
  have g5' : tv_ag oc (upd a5 top (nI w)) (tv_s t5 top w) := tv_ag_set g5 (by omega)
  refine ⟨pk_in top 10 (by omega), pk_in top 10 (by omega), nm_r (e' := upd a5 top (nI w)) (by rw [tv_cl top, e5, nI_pred, tv_nb w (by omega)]) ⟨pk_in top 10 (by omega), ?_⟩⟩
  rw [tv_cl top, pk_us]
  refine tv_eq h (fun e h => br_t (by rw [e]; rfl) (nm_r (e' := nI (oc - 1)) (pk_sub (show 1 ≤ oc by omega)) ?_)) (fun e h => br_f (nI_ne0 (by omega) (by omega)) (H oc t3 _ a3 _ ho g3 g4 g5' h))
  exact H (oc - 1) t3 _ a3 _ (by omega) g3 (tv_ag_le g4 (by omega)) (tv_ag_le g5' (by omega)) h
theorem tv_att_ok {post : St2 → Prop} {p0 : Int32} {cell oc t3 t4 t5 : Nat} {k : Nat → Nat → Nat → Bool} (ep : p0 = nI cell) (hc : cell < 18) (g3 : tv_ag 18 a3 t3) (g4 : tv_ag oc a4 t4) (g5 : tv_ag oc a5 t5)
    (h : tv_att cell oc t3 t4 t5 k = true)
    (H : ∀ (oc t3 t5 : Nat) (b3 b5 : Nat → Int32), oc ≤ 10 → tv_ag 18 b3 t3 → tv_ag oc a4 t4 → tv_ag oc b5 t5 → k oc t3 t5 = true → post (f1, nI oc, f3, f4, f5, f6, a1, a2, b3, a4, b5, a6, a7, a8, a9, a10, a11, a12, a13, a14)) : wpX_attach post (f1, nI oc, f3, f4, f5, f6, a1, a2, a3, a4, a5, a6, a7, a8, a9, a10, a11, a12, a13, a14) p0 := by
  subst ep
  unfold wpX_attach
  unfold tv_att at h
  obtain ⟨y1, h⟩ := tv_as h
  obtain ⟨y2, h⟩ := tv_as h
  obtain ⟨y3, h⟩ := tv_as h
  obtain ⟨y4, h⟩ := tv_as h
  have y3' : tv_g t4 (oc - 1) ≤ 17 := y3
  have y4' : 1 ≤ tv_g t5 (oc - 1) := y4
  obtain ⟨b4, e4⟩ := g4 (oc - 1) (by omega)
  obtain ⟨b5, e5⟩ := g5 (oc - 1) (by omega)
  have h' : cond (Nat.beq cell (tv_g t4 (oc - 1) + 1)) (tv_at2 (oc - 1) (tv_g t5 (oc - 1) - 1) oc t3 t5 k) (tv_at2 (oc - 1) (tv_g t5 (oc - 1) - 1) oc (tv_s t3 (tv_g t4 (oc - 1)) cell) t5 k) = true := h
  have e5' : a5 (oc - 1) = nI (tv_g t5 (oc - 1) - 1 + 1) := by
    rw [e5]
    congr 1
    omega
  generalize tv_g t4 (oc - 1) = c at *
  generalize tv_g t5 (oc - 1) = w at *
  refine nm_r (e' := nI (oc - 1)) (pk_sub (show 1 ≤ oc from y1)) ⟨pk_in (oc - 1) 10 (by omega), ?_⟩
  rw [tv_cl (oc - 1), e4]
  refine tv_eq h' (fun e h => br_t (by rw [e, nI_1]) (tv_at2_ok (by omega) y2 (by omega) e5' g3 g4 g5 h H)) (fun e h => br_f (by rw [nI_1, nI_eq (by omega) (by omega)]; exact e) ⟨pk_in (oc - 1) 10 (by omega), pk_in c 18 (by omega), nm_r (e' := upd a3 c (nI cell)) (by rw [tv_cl c, tv_nb cell (by omega)]) (tv_at2_ok (by omega) y2 (by omega) e5' (tv_ag_set g3 (by omega)) g4 g5 h H)⟩)
theorem tv_wants_ok {post : Int32 → Prop} {tok : Nat} (ht : tok < 128) (H : post (nI (tv_wants tok))) : wpX_wants post () (nI tok) := by
  unfold tv_wants at H
  refine pk_eq tok 0 (fun e => ?_) (fun e => pk_le 4 tok (fun g => ?_) (fun g => ?_))
  · rw [tv_bt e] at H
    exact H
  · rw [tv_bf e, tv_lt g] at H
    exact H
  · rw [tv_bf e, tv_lf g] at H
    exact H
theorem tv_wants_l (tok : Nat) : tv_wants tok < 3 := by
  unfold tv_wants
  cases Nat.beq tok 0
  · cases Nat.ble 4 tok
    · show 2 < 3
      omega
    · show 0 < 3
      omega
  · show 1 < 3
    omega
theorem tv_rd2_ok {post : St2 → Prop} {J : Int32 → Int32 → Int32 → Int32 → Int32 → Int32 → Int32 → (Nat → Int32) → (Nat → Int32) → (Nat → Int32) → (Nat → Int32) → (Nat → Int32) → (Nat → Int32) → (Nat → Int32) → (Nat → Int32) → (Nat → Int32) → (Nat → Int32) → (Nat → Int32) → (Nat → Int32) → (Nat → Int32) → (Nat → Int32) → Prop} {x1 : Int32}
    {cell tok x oc t3 t4 t5 : Nat} {k : Nat → Nat → Nat → Nat → Nat → Bool} (hc : cell < 18) (ht : tok < 128) (e1 : a1 cell = nI tok) (ho : oc ≤ 10) (g4 : tv_ag oc a4 t4) (g5 : tv_ag oc a5 t5)
    (h : tv_rd2 cell (tv_wants tok) x oc t3 t4 t5 k = true)
    (H : ∀ (oc t4 t5 : Nat) (b4 b5 : Nat → Int32), oc ≤ 10 → tv_ag oc b4 t4 → tv_ag oc b5 t5 → k (x + 1) oc t3 t4 t5 = true → J (nI (x + 1)) f1 (nI oc) f3 f4 f5 f6 a1 a2 a3 b4 b5 a6 a7 a8 a9 a10 a11 a12 a13 a14) : wX_read_36 post J x1 (nI x) (nI cell) f1 (nI oc) f3 f4 f5 f6 a1 a2 a3 a4 a5 a6 a7 a8 a9 a10 a11 a12 a13 a14 := by
  unfold tv_rd2 at h
  have hw := tv_wants_l tok
  unfold wX_read_36
  refine ⟨pk_in cell 18 hc, ?_⟩
  rw [tv_cl cell, e1]
  refine tv_wants_ok ht ?_
  refine tv_eq h (fun e h => br_t (by rw [e]; decide) (nm_r (nI_1 x) (H oc t4 t5 _ _ ho g4 g5 h))) (fun e h => br_f (nI_nle (by omega) (by omega)) ?_)
  obtain ⟨y, h⟩ := tv_as h
  refine ⟨pk_in oc 10 (by omega), nm_r (e' := upd a4 oc (nI cell)) (by rw [tv_cl oc, tv_nb cell (by omega)]) ⟨pk_in oc 10 (by omega), nm_r (e' := upd a5 oc (nI (tv_wants tok))) (by rw [tv_cl oc, tv_nb _ (by omega)]) (nm_r (nI_1 oc) (nm_r (nI_1 x) ?_))⟩⟩
  exact H (oc + 1) _ _ _ _ (by omega) (tv_ag_push g4 (by omega)) (tv_ag_push g5 (show tv_wants tok < 128 by omega)) h
theorem tv_cell (f x : Nat) : nI f * 9 + nI x = nI (f * 9 + x) := by
  rw [show (9 : Int32) = nI 9 from rfl, pk_mul, nI_add]
theorem tv_rd_ok {post : St2 → Prop} {f sz t1 : Nat} {k : Nat → Nat → Nat → Nat → Bool} (hf : f < 2) (g1 : tv_ag 18 a1 t1) (hs : sz < 128) (e2 : a2 f = nI sz)
    (H : ∀ (oc t3 t4 t5 : Nat) (b3 b4 b5 : Nat → Int32), oc ≤ 10 → tv_ag 18 b3 t3 → k oc t3 t4 t5 = true → post (f1, nI oc, f3, f4, f5, f6, a1, a2, b3, b4, b5, a6, a7, a8, a9, a10, a11, a12, a13, a14)) :
    ∀ (n x oc t3 t4 t5 : Nat) (a3 a4 a5 : Nat → Int32), x ≤ 18 → oc ≤ 10 → tv_ag 18 a3 t3 → tv_ag oc a4 t4 → tv_ag oc a5 t5 → tv_rd f sz t1 k n x oc t3 t4 t5 = true → wX_read_7 post (nI f) n (nI x) f1 (nI oc) f3 f4 f5 f6 a1 a2 a3 a4 a5 a6 a7 a8 a9 a10 a11 a12 a13 a14 := by
  intro n
  induction n with
  | zero =>
    intro x oc t3 t4 t5 a3 a4 a5 _ _ _ _ _ h
    exact absurd (show false = true from h) (by decide)
  | succ n ih =>
    intro x oc t3 t4 t5 a3 a4 a5 hx ho g3 g4 g5 h
    unfold tv_rd at h
    have e2' : a2 (nI f).toNatClampNeg = nI sz := by rw [tv_cl f, e2]
    refine ⟨pk_in f 2 hf, tv_le h (fun z h => br_t (by rw [e2']; exact nI_le z (by omega)) (H oc t3 t4 t5 _ _ _ ho g3 h)) (fun z h => br_f (by rw [e2']; exact nI_ge z (by omega)) (nm_r (e' := nI (f * 9 + x)) (tv_cell f x) ?_))⟩
    obtain ⟨y, h⟩ := tv_as h
    have y' : f * 9 + x ≤ 17 := y
    obtain ⟨b1, e1⟩ := g1 (f * 9 + x) (by omega)
    refine tv_eq h (fun e h => br_t (by rw [e]; decide) ?_) (fun e h => br_f (nI_nle (by omega) (by omega)) ?_)
    · exact tv_rd2_ok (by omega) b1 e1 ho g4 g5 h (fun oc t4 t5 b4 b5 ho g4 g5 h => ih (x + 1) oc t3 t4 t5 _ b4 b5 (by omega) ho g3 g4 g5 h)
    · refine tv_att_ok rfl (show f * 9 + x < 18 by omega) g3 g4 g5 h (fun oc t3 t5 b3 b5 ho g3 g4 g5 h => ?_)
      exact tv_rd2_ok (by omega) b1 e1 ho g4 g5 h (fun oc t4 t5 b4 b5 ho g4 g5 h => ih (x + 1) oc t3 t4 t5 _ b4 b5 (by omega) ho g3 g4 g5 h)
theorem tv_isf {post : Int32 → Prop} {f : Nat} (hf : f < 2) (H : post 1) : wpX_isFormula post () (nI f) :=
  pk_eq f 0 (fun _ => H) (fun e => pk_eq f 1 (fun _ => H) (fun e' => absurd e' (by omega)))
theorem tv_comp_ok {post : Int32 → St2 → Prop} {f t1 t2 t3 : Nat} {k : Nat → Nat → Bool} (hf : f < 2) (g1 : tv_ag 18 a1 t1) (g2 : tv_ag 2 a2 t2) (g3 : tv_ag 18 a3 t3) (h : tv_comp f t1 t2 t3 k = true)
    (H : ∀ (r t3 : Nat), r ≤ 1 → k r t3 = true → tv_W post f1 t1 t2 t3 (nI r)) : wpX_complete post (f1, f2, f3, f4, f5, f6, a1, a2, a3, a4, a5, a6, a7, a8, a9, a10, a11, a12, a13, a14) (nI f) := by
  unfold wpX_complete
  unfold tv_comp at h
  obtain ⟨b2, e2⟩ := g2 f hf
  refine tv_isf hf (br_f (by decide) ⟨20, tv_rd_ok hf g1 b2 e2 (fun oc t3 t4 t5 b3 b4 b5 ho g3 h => ?_) 20 0 0 t3 0 0 a3 a4 a5 (by omega) (by omega) g3 tv_ag_z tv_ag_z h⟩)
  have e2' : a2 (nI f).toNatClampNeg = nI (tv_g t2 f) := by rw [tv_cl f, e2]
  refine ⟨pk_in f 2 hf, tv_eq h (fun e h => br_t (by rw [e2', e]; decide) (tv_Wa (H 0 t3 (by omega) h) g1 g2 g3)) (fun e h => br_f (by rw [e2']; exact nI_nle (by omega) (by omega)) ?_)⟩
  exact tv_eq h (fun e h => br_t (by rw [e]; rfl) (tv_Wa (H 1 t3 (by omega) h) g1 g2 g3)) (fun e h => br_f (nI_ne0 (by omega) (by omega)) (tv_Wa (H 0 t3 (by omega) h) g1 g2 g3))
/-! ===== feed, back ===== -/
theorem tv_feed_ok {post : Int32 → St2 → Prop} {p1 : Int32} {f tok t1 t2 t3 : Nat} {k : Nat → Nat → Nat → Nat → Bool} (hf : f < 2) (ht : tok < 8) (ep : p1 = nI tok) (g1 : tv_ag 18 a1 t1) (g2 : tv_ag 2 a2 t2) (g3 : tv_ag 18 a3 t3) (h : tv_feed f tok t1 t2 t3 k = true)
    (H : ∀ (r t1 t2 t3 : Nat), r < 128 → k r t1 t2 t3 = true → tv_W post f1 t1 t2 t3 (nI r)) : wpX_feed post (f1, f2, f3, f4, f5, f6, a1, a2, a3, a4, a5, a6, a7, a8, a9, a10, a11, a12, a13, a14) (nI f) p1 := by
  subst ep
  unfold wpX_feed
  unfold tv_feed at h
  obtain ⟨y, h⟩ := tv_as h
  obtain ⟨b2, e2⟩ := g2 f hf
  refine tv_isf hf (br_f (by decide) (br_f (nI_pos (by omega)) (br_f (nI_nlt (a := 7) (by omega) (by decide)) ⟨pk_in f 2 hf, br_f (by rw [tv_cl f, e2]; exact nI_ge (b := 9) (by omega) (by decide)) ?_⟩)))
  refine tv_comp_ok hf g1 g2 g3 h (fun r t3 hr h => ?_)
  intro f2 f3 f4 f5 f6 a1 a2 a3 a4 a5 a6 a7 a8 a9 a10 a11 a12 a13 a14 g1 g2 g3
  obtain ⟨b2, e2⟩ := g2 f hf
  have ec : nI f * 9 + a2 (nI f).toNatClampNeg = nI (f * 9 + tv_g t2 f) := by rw [tv_cl f, e2, tv_cell]
  have h' : cond (Nat.beq r 0) (k (tv_g t2 f + 1) (tv_s t1 (f * 9 + tv_g t2 f) tok) (tv_s t2 f (tv_g t2 f + 1)) t3) false = true := h
  refine tv_eq h' (fun e h => br_t (by rw [e]; rfl) ⟨pk_in f 2 hf, pk_in (f * 9 + tv_g t2 f) 18 (by omega) ec, nm_r (e' := upd a1 (f * 9 + tv_g t2 f) (nI tok)) (by rw [ec, tv_cl (f * 9 + tv_g t2 f), tv_nb tok (by omega)]) ⟨pk_in f 2 hf, pk_in f 2 hf, nm_r (e' := upd a2 f (nI (tv_g t2 f + 1))) (by rw [tv_cl f, e2, nI_1, tv_nb _ (by omega)]) ⟨pk_in f 2 hf, ?_⟩⟩⟩) (fun e h => absurd h (by decide))
  rw [tv_cl f, pk_us]
  exact tv_Wa (H _ _ _ _ (by omega) h) (tv_ag_set g1 (by omega)) (tv_ag_set g2 (by omega)) g3
theorem tv_bk_ok {post : Int32 → St2 → Prop} {f t1 t2 t3 : Nat} {k : Nat → Nat → Bool} (hf : f < 2) (g1 : tv_ag 18 a1 t1) (g2 : tv_ag 2 a2 t2) (g3 : tv_ag 18 a3 t3) (h : tv_bk f t1 t2 k = true)
    (H : ∀ (r t2 : Nat), r < 128 → k r t2 = true → tv_W post f1 t1 t2 t3 (nI r)) : wpX_back post (f1, f2, f3, f4, f5, f6, a1, a2, a3, a4, a5, a6, a7, a8, a9, a10, a11, a12, a13, a14) (nI f) := by
  unfold wpX_back
  unfold tv_bk at h
  obtain ⟨y, h⟩ := tv_as h
  obtain ⟨y', h⟩ := tv_as h
  obtain ⟨b2, e2⟩ := g2 f hf
  obtain ⟨b1, e1⟩ := g1 (f * 9 + (tv_g t2 f - 1)) (by omega)
  have es : a2 (nI f).toNatClampNeg - 1 = nI (tv_g t2 f - 1) := by
    rw [tv_cl f, e2]
    exact pk_sub (b := 1) y
  have ec : nI f * 9 + upd a2 f (nI (tv_g t2 f - 1)) (nI f).toNatClampNeg = nI (f * 9 + (tv_g t2 f - 1)) := by rw [tv_cl f, pk_us, tv_cell]
  refine tv_isf hf (br_f (by decide) ⟨pk_in f 2 hf, br_f (by rw [tv_cl f, e2]; exact nI_ne0 y (by omega)) ⟨pk_in f 2 hf, pk_in f 2 hf, nm_r (e' := upd a2 f (nI (tv_g t2 f - 1))) (by rw [es, tv_cl f, tv_nb _ (by omega)]) ⟨pk_in f 2 hf, pk_in (f * 9 + (tv_g t2 f - 1)) 18 (by omega) ec, ?_⟩⟩⟩)
  rw [ec, tv_cl (f * 9 + (tv_g t2 f - 1)), e1]
  exact tv_Wa (H _ _ b1 h) g1 (tv_ag_set g2 (by omega)) g3
theorem tv_both_ok {post : Int32 → St2 → Prop} {t1 t2 t3 : Nat} {k : Nat → Nat → Bool} (g1 : tv_ag 18 a1 t1) (g2 : tv_ag 2 a2 t2) (g3 : tv_ag 18 a3 t3) (h : tv_both t1 t2 t3 k = true)
    (H : ∀ (r t3 : Nat), r ≤ 1 → k r t3 = true → tv_W post f1 t1 t2 t3 (nI r)) : wpX_both post (f1, f2, f3, f4, f5, f6, a1, a2, a3, a4, a5, a6, a7, a8, a9, a10, a11, a12, a13, a14) := by
  unfold wpX_both
  unfold tv_both at h
  refine tv_comp_ok (f := 0) (by omega) g1 g2 g3 h (fun r t3 hr h => ?_)
  intro f2 f3 f4 f5 f6 a1 a2 a3 a4 a5 a6 a7 a8 a9 a10 a11 a12 a13 a14 g1 g2 g3
  refine tv_eq h (fun e h => br_t (by rw [e]; rfl) (tv_Wa (H 0 t3 (by omega) h) g1 g2 g3)) (fun e h => br_f (nI_ne0 (by omega) (by omega)) ?_)
  refine tv_comp_ok (f := 1) (by omega) g1 g2 g3 h (fun r t3 hr h => ?_)
  intro f2 f3 f4 f5 f6 a1 a2 a3 a4 a5 a6 a7 a8 a9 a10 a11 a12 a13 a14 g1 g2 g3
  exact tv_eq h (fun e h => br_t (by rw [e]; rfl) (tv_Wa (H 0 t3 (by omega) h) g1 g2 g3)) (fun e h => br_f (nI_ne0 (by omega) (by omega)) (tv_Wa (H 1 t3 (by omega) h) g1 g2 g3))
end
end
section
section
variable {f1 f2 f3 f4 f5 f6 : Int32} {a1 a2 a3 a4 a5 a6 a7 a8 a9 a10 a11 a12 a13 a14 : Nat → Int32}
/-! ===== ask, askOne of formula 0 ===== -/
theorem tv_al7 : ∀ i, i < 4 → tv_g tv_al i = 7 := by decide +kernel
theorem tv_ask_ok {post : St2 → Prop} {p0 p1 : Int32} (H : ∀ b13, tv_ag 4 b13 tv_al → post (f1, f2, f3, f4, p0, p1, a1, a2, a3, a4, a5, a6, a7, a8, a9, a10, a11, a12, b13, a14)) : wpX_ask post (f1, f2, f3, f4, f5, f6, a1, a2, a3, a4, a5, a6, a7, a8, a9, a10, a11, a12, a13, a14) p0 p1 := by
  unfold wpX_ask
  exact pk_loop (fun n i s => wX_ask_12 post f1 f2 f3 f4 p0 p1 n (nI i) a1 a2 a3 a4 a5 a6 a7 a8 a9 a10 a11 a12 s a14) (fun i s => tv_ag i s tv_al) 4 0 a13 (by omega) tv_ag_z
    (fun n s hs => pk_le 4 4 (fun _ => H s hs) (fun z => absurd z (by omega)))
    (fun n i s hi hs hw => pk_le 4 i (fun z => absurd z (by omega)) (fun _ => ⟨pk_in i 4 hi, nm_r (e' := upd s i (nI (tv_g tv_al i))) (by rw [tv_cl i, tv_al7 i hi]; rfl) (nm_r (nI_1 i) (hw _ (tv_ag_cp hs (by rw [tv_al7 i hi]; decide))))⟩))
theorem tv_ask1_ok {post : St2 → Prop} {p1 : Int32} (H : ∀ b13, tv_ag 4 b13 tv_al → post (f1, f2, f3, f4, p1, 7, a1, a2, a3, a4, a5, a6, a7, a8, a9, a10, a11, a12, b13, a14)) : wpX_askOne post (f1, f2, f3, f4, f5, f6, a1, a2, a3, a4, a5, a6, a7, a8, a9, a10, a11, a12, a13, a14) 0 p1 := by
  unfold wpX_askOne
  exact br_t rfl (br_t rfl (tv_ask_ok H))
/-! ===== least ===== -/
/-- an answer of least: 0 is none -/
def tv_N : Nat → Int32
  | 0 => -1
  | n + 1 => nI n
theorem tv_lv_ok {post : Int32 → St2 → Prop} {lg t1 t3 fv ov l o : Nat} {k : Nat → Nat → Bool} (hl : lg < 3) (h1 : tv_ag 18 a1 t1) (h3 : tv_ag 18 a3 t3) (hf : fv < 128) (hv : ov < 128) (hl4 : l < 4) (ho : o < 128)
    (H : ∀ (v t13 : Nat) (f3 f4 : Int32) (b6 b7 b8 b9 b10 b11 b12 b13 : Nat → Int32), v < 3 → tv_ag 4 b13 t13 → k v t13 = true → post (nI v) (nI lg, f2, f3, f4, nI fv, nI ov, a1, a2, a3, a4, a5, b6, b7, b8, b9, b10, b11, b12, b13, a14)) :
    ∀ (n v t13 : Nat) (f3 f4 : Int32) (a6 a7 a8 a9 a10 a11 a12 a13 : Nat → Int32), v ≤ 3 → tv_ag 4 a13 t13 → tv_lv lg t1 t3 fv ov l o k n v t13 = true → wX_leastValue_9 post (nI l) (nI o) n (nI v) (nI lg) f2 f3 f4 (nI fv) (nI ov) a1 a2 a3 a4 a5 a6 a7 a8 a9 a10 a11 a12 a13 a14 := by
  intro n
  induction n with
  | zero =>
    intro v t13 f3 f4 a6 a7 a8 a9 a10 a11 a12 a13 _ _ h
    exact absurd (show false = true from h) (by decide)
  | succ n ih =>
    intro v t13 f3 f4 a6 a7 a8 a9 a10 a11 a12 a13 hv3 g13 h
    unfold tv_lv at h
    refine tv_le h (fun z h => br_t (nI_le z (by omega)) (H 0 t13 _ _ _ _ _ _ _ _ _ _ (by omega) g13 h)) (fun z h => br_f (nI_ge (b := 3) z (by decide)) ?_)
    refine tv_eq h (fun e h => br_t ((tv_b0 o ho v z).mpr e) (nm_r (nI_1 v) (ih (v + 1) t13 _ _ _ _ _ _ _ _ _ _ (by omega) g13 h))) (fun e h => br_f (fun q => e ((tv_b0 o ho v z).mp q)) ?_)
    have hsl : Nat.shiftLeft 1 v < 128 := Nat.lt_trans (tv_shl v z) (by decide)
    have g13' : tv_ag 4 (upd a13 l (nI (Nat.shiftLeft 1 v))) (tv_s t13 l (Nat.shiftLeft 1 v)) := tv_ag_set g13 hsl
    refine ⟨pk_in l 4 hl4, nm_r (e' := upd a13 l (nI (Nat.shiftLeft 1 v))) (by rw [tv_cl l, tv_sh v z, tv_nb _ hsl]) ?_⟩
    refine tv_meets_ok hl h1 h3 g13' hf hv h (fun r f3 f4 b6 b7 b8 b9 b10 b11 b12 hr h => ?_)
    exact tv_eq h (fun e h => br_t (by rw [e]; rfl) (nm_r (nI_1 v) (ih (v + 1) _ _ _ _ _ _ _ _ _ _ _ (by omega) g13' h))) (fun e h => br_f (nI_ne0 (by omega) (by omega)) (H v _ _ _ _ _ _ _ _ _ _ _ z g13' h))
theorem tv_lp_ok {post : Int32 → St2 → Prop} {lg t1 t3 fv ov : Nat} {k : Nat → Bool} (hl : lg < 3) (h1 : tv_ag 18 a1 t1) (h3 : tv_ag 18 a3 t3) (hf : fv < 128) (hv : ov < 128)
    (H : ∀ (num : Nat) (f3 f4 : Int32) (b6 b7 b8 b9 b10 b11 b12 b13 : Nat → Int32), num ≤ 3002 → k (num + 1) = true → post (nI num) (nI lg, f2, f3, f4, nI fv, nI ov, a1, a2, a3, a4, a5, b6, b7, b8, b9, b10, b11, b12, b13, a14)) :
    ∀ (j num t13 : Nat) (f3 f4 : Int32) (a6 a7 a8 a9 a10 a11 a12 a13 : Nat → Int32), j ≤ 4 → num ≤ 3002 → tv_ag 4 a13 t13 → tv_lp lg t1 t3 fv ov k j num t13 = true → wX_least_13 post (j + 1) (nI num) (nI j + (-1)) (nI lg) f2 f3 f4 (nI fv) (nI ov) a1 a2 a3 a4 a5 a6 a7 a8 a9 a10 a11 a12 a13 a14 := by
  intro j
  induction j with
  | zero =>
    intro num t13 f3 f4 a6 a7 a8 a9 a10 a11 a12 a13 _ hn _ h
    exact br_t (by decide) (H num _ _ _ _ _ _ _ _ _ _ hn h)
  | succ j ih =>
    intro num t13 f3 f4 a6 a7 a8 a9 a10 a11 a12 a13 hj hn g13 h
    unfold tv_lp at h
    obtain ⟨y, h⟩ := tv_as h
    obtain ⟨b13, e13⟩ := g13 j (by omega)
    rw [pk_m1]
    refine br_f (nI_pos (by omega)) ⟨pk_in j 4 (by omega), nm_r (e' := nI (tv_g t13 j)) (by rw [tv_cl j, e13]) ⟨4, ?_⟩⟩
    refine tv_lv_ok hl h1 h3 hf hv (by omega) b13 (fun v t13 f3 f4 b6 b7 b8 b9 b10 b11 b12 b13 hv3 g13 h => ?_) 4 0 t13 _ _ _ _ _ _ _ _ _ _ (by omega) g13 h
    exact nm_r (e' := nI (3 * num + v)) (by rw [show (3 : Int32) = nI 3 from rfl, pk_mul, nI_add]) (nm_e (ih (3 * num + v) t13 _ _ _ _ _ _ _ _ _ _ (by omega) (by omega) g13 h))
theorem tv_least_ok {post : Int32 → St2 → Prop} {lg t1 t2 t3 fv ov t13 : Nat} {k : Nat → Bool} (hl : lg < 3) (g1 : tv_ag 18 a1 t1) (g2 : tv_ag 2 a2 t2) (g3 : tv_ag 18 a3 t3) (g13 : tv_ag 4 a13 t13) (hf : fv < 128) (hv : ov < 128) (h : tv_least lg t1 t3 fv ov t13 k = true)
    (H : ∀ (f : Nat), f ≤ 3003 → k f = true → tv_W post (nI lg) t1 t2 t3 (tv_N f)) : wpX_least post (nI lg, f2, f3, f4, nI fv, nI ov, a1, a2, a3, a4, a5, a6, a7, a8, a9, a10, a11, a12, a13, a14) := by
  unfold wpX_least
  unfold tv_least at h
  refine tv_meets_ok hl g1 g3 g13 hf hv h (fun r f3 f4 b6 b7 b8 b9 b10 b11 b12 hr h => ?_)
  refine tv_eq h (fun e h => br_t (by rw [e]; rfl) (tv_Wa (H 0 (by omega) h) g1 g2 g3)) (fun e h => br_f (nI_ne0 (by omega) (by omega)) ⟨5, ?_⟩)
  exact tv_lp_ok hl g1 g3 hf hv (fun num f3 f4 b6 b7 b8 b9 b10 b11 b12 b13 hn h => tv_Wa (H (num + 1) (by omega) h) g1 g2 g3) 4 0 t13 _ _ _ _ _ _ _ _ _ _ (by omega) (by omega) g13 h
/-! ===== answers ===== -/
theorem tv_mw {post : Int32 → St2 → Prop} {lg t1 t2 t3 fv ov t13 : Nat} {k : Nat → Bool} (hl : lg < 3) (g1 : tv_ag 18 a1 t1) (g2 : tv_ag 2 a2 t2) (g3 : tv_ag 18 a3 t3) (g13 : tv_ag 4 a13 t13) (hf : fv < 128) (hv : ov < 128) (h : tv_meets lg t1 t3 fv ov t13 k = true)
    (H : ∀ (r : Nat), r ≤ 1 → k r = true → tv_W post (nI lg) t1 t2 t3 (nI r)) : wpX_meets post (nI lg, f2, f3, f4, nI fv, nI ov, a1, a2, a3, a4, a5, a6, a7, a8, a9, a10, a11, a12, a13, a14) :=
  tv_meets_ok hl g1 g3 g13 hf hv h (fun r f3 f4 b6 b7 b8 b9 b10 b11 b12 hr h => tv_Wa (H r hr h) g1 g2 g3)
theorem tv_never_ok {post : Int32 → St2 → Prop} {lg t1 t2 t3 : Nat} (fv ov : Nat) {k : Nat → Bool} (hl : lg < 3) (g1 : tv_ag 18 a1 t1) (g2 : tv_ag 2 a2 t2) (g3 : tv_ag 18 a3 t3) (hf : fv < 128) (hv : ov < 128) (h : tv_never lg t1 t3 fv ov k = true)
    (H : ∀ (r : Nat), r ≤ 1 → k r = true → tv_W post (nI lg) t1 t2 t3 (nI r)) : wpX_never post (nI lg, f2, f3, f4, f5, f6, a1, a2, a3, a4, a5, a6, a7, a8, a9, a10, a11, a12, a13, a14) (nI fv) (nI ov) := by
  unfold wpX_never
  unfold tv_never at h
  refine tv_ask_ok (fun b13 g13 => tv_mw hl g1 g2 g3 g13 hf hv h (fun r hr h => ?_))
  intro f2 f3 f4 f5 f6 a1 a2 a3 a4 a5 a6 a7 a8 a9 a10 a11 a12 a13 a14 g1 g2 g3
  exact tv_eq h (fun e h => br_t (by rw [e]; rfl) (tv_Wa (H 1 (by omega) h) g1 g2 g3)) (fun e h => br_f (nI_ne0 (by omega) (by omega)) (tv_Wa (H 0 (by omega) h) g1 g2 g3))
theorem tv_entails_ok {post : Int32 → St2 → Prop} {lg t1 t2 t3 : Nat} {k : Nat → Nat → Bool} (hl : lg < 3) (g1 : tv_ag 18 a1 t1) (g2 : tv_ag 2 a2 t2) (g3 : tv_ag 18 a3 t3) (h : tv_entails lg t1 t2 t3 k = true)
    (H : ∀ (r t3 : Nat), r ≤ 1 → k r t3 = true → tv_W post (nI lg) t1 t2 t3 (nI r)) : wpX_entails post (nI lg, f2, f3, f4, f5, f6, a1, a2, a3, a4, a5, a6, a7, a8, a9, a10, a11, a12, a13, a14) := by
  unfold wpX_entails
  unfold tv_entails at h
  refine tv_both_ok g1 g2 g3 h (fun r t3 hr h => ?_)
  intro f2 f3 f4 f5 f6 a1 a2 a3 a4 a5 a6 a7 a8 a9 a10 a11 a12 a13 a14 g1 g2 g3
  refine tv_eq h (fun e h => br_t (by rw [e]; rfl) (tv_Wa (H 0 t3 (by omega) h) g1 g2 g3)) (fun e h => br_f (nI_ne0 (by omega) (by omega)) ?_)
  refine tv_never_ok 4 3 hl g1 g2 g3 (by omega) (by omega) h (fun r hr h => ?_)
  intro f2 f3 f4 f5 f6 a1 a2 a3 a4 a5 a6 a7 a8 a9 a10 a11 a12 a13 a14 g1 g2 g3
  rcases Nat.lt_or_ge r 1 with z | z
  · have e : r = 0 := by omega
    subst e
    exact br_t rfl (tv_Wa (H 0 t3 (by omega) h) g1 g2 g3)
  · have e : r = 1 := by omega
    subst e
    exact br_f (by decide) (tv_Wa (H 1 t3 (by omega) h) g1 g2 g3)
theorem tv_below_ok {post : Int32 → St2 → Prop} {lg t1 t2 t3 : Nat} {k : Nat → Nat → Bool} (hl : lg < 3) (g1 : tv_ag 18 a1 t1) (g2 : tv_ag 2 a2 t2) (g3 : tv_ag 18 a3 t3) (h : tv_below lg t1 t2 t3 k = true)
    (H : ∀ (r t3 : Nat), r ≤ 1 → k r t3 = true → tv_W post (nI lg) t1 t2 t3 (nI r)) : wpX_below post (nI lg, f2, f3, f4, f5, f6, a1, a2, a3, a4, a5, a6, a7, a8, a9, a10, a11, a12, a13, a14) := by
  unfold wpX_below
  unfold tv_below at h
  refine tv_both_ok g1 g2 g3 h (fun r t3 hr h => ?_)
  intro f2 f3 f4 f5 f6 a1 a2 a3 a4 a5 a6 a7 a8 a9 a10 a11 a12 a13 a14 g1 g2 g3
  refine tv_eq h (fun e h => br_t (by rw [e]; rfl) (tv_Wa (H 0 t3 (by omega) h) g1 g2 g3)) (fun e h => br_f (nI_ne0 (by omega) (by omega)) ?_)
  refine tv_never_ok 2 1 hl g1 g2 g3 (by omega) (by omega) h (fun r hr h => ?_)
  intro f2 f3 f4 f5 f6 a1 a2 a3 a4 a5 a6 a7 a8 a9 a10 a11 a12 a13 a14 g1 g2 g3
  refine tv_eq h (fun e h => br_t (by rw [e]; rfl) (tv_Wa (H 0 t3 (by omega) h) g1 g2 g3)) (fun e h => br_f (nI_ne0 (by omega) (by omega)) ?_)
  refine tv_never_ok 4 3 hl g1 g2 g3 (by omega) (by omega) h (fun r hr h => ?_)
  intro f2 f3 f4 f5 f6 a1 a2 a3 a4 a5 a6 a7 a8 a9 a10 a11 a12 a13 a14 g1 g2 g3
  rcases Nat.lt_or_ge r 1 with z | z
  · have e : r = 0 := by omega
    subst e
    exact br_t rfl (tv_Wa (H 0 t3 (by omega) h) g1 g2 g3)
  · have e : r = 1 := by omega
    subst e
    exact br_f (by decide) (tv_Wa (H 1 t3 (by omega) h) g1 g2 g3)
theorem tv_alike_ok {post : Int32 → St2 → Prop} {lg t1 t2 t3 : Nat} {k : Nat → Nat → Bool} (hl : lg < 3) (g1 : tv_ag 18 a1 t1) (g2 : tv_ag 2 a2 t2) (g3 : tv_ag 18 a3 t3) (h : tv_alike lg t1 t2 t3 k = true)
    (H : ∀ (r t3 : Nat), r ≤ 1 → k r t3 = true → tv_W post (nI lg) t1 t2 t3 (nI r)) : wpX_alike post (nI lg, f2, f3, f4, f5, f6, a1, a2, a3, a4, a5, a6, a7, a8, a9, a10, a11, a12, a13, a14) := by
  unfold wpX_alike
  unfold tv_alike at h
  refine tv_both_ok g1 g2 g3 h (fun r t3 hr h => ?_)
  intro f2 f3 f4 f5 f6 a1 a2 a3 a4 a5 a6 a7 a8 a9 a10 a11 a12 a13 a14 g1 g2 g3
  refine tv_eq h (fun e h => br_t (by rw [e]; rfl) (tv_Wa (H 0 t3 (by omega) h) g1 g2 g3)) (fun e h => br_f (nI_ne0 (by omega) (by omega)) ?_)
  refine tv_never_ok 1 6 hl g1 g2 g3 (by omega) (by omega) h (fun r hr h => ?_)
  intro f2 f3 f4 f5 f6 a1 a2 a3 a4 a5 a6 a7 a8 a9 a10 a11 a12 a13 a14 g1 g2 g3
  refine tv_eq h (fun e h => br_t (by rw [e]; rfl) (tv_Wa (H 0 t3 (by omega) h) g1 g2 g3)) (fun e h => br_f (nI_ne0 (by omega) (by omega)) ?_)
  refine tv_never_ok 2 5 hl g1 g2 g3 (by omega) (by omega) h (fun r hr h => ?_)
  intro f2 f3 f4 f5 f6 a1 a2 a3 a4 a5 a6 a7 a8 a9 a10 a11 a12 a13 a14 g1 g2 g3
  refine tv_eq h (fun e h => br_t (by rw [e]; rfl) (tv_Wa (H 0 t3 (by omega) h) g1 g2 g3)) (fun e h => br_f (nI_ne0 (by omega) (by omega)) ?_)
  refine tv_never_ok 4 3 hl g1 g2 g3 (by omega) (by omega) h (fun r hr h => ?_)
  intro f2 f3 f4 f5 f6 a1 a2 a3 a4 a5 a6 a7 a8 a9 a10 a11 a12 a13 a14 g1 g2 g3
  rcases Nat.lt_or_ge r 1 with z | z
  · have e : r = 0 := by omega
    subst e
    exact br_t rfl (tv_Wa (H 0 t3 (by omega) h) g1 g2 g3)
  · have e : r = 1 := by omega
    subst e
    exact br_f (by decide) (tv_Wa (H 1 t3 (by omega) h) g1 g2 g3)
theorem tv_isv {post : Int32 → Prop} {v : Nat} (hv : v < 3) (H : post 1) : wpX_isValue post () (nI v) :=
  br_f (nI_pos (by omega)) (br_f (nI_ge (b := 3) hv (by decide)) H)
theorem tv_fb_ok {post : Int32 → St2 → Prop} {lg t1 t2 t3 : Nat} (v w : Nat) {k : Nat → Nat → Bool} (hl : lg < 3) (hv : v < 3) (hw : w < 3) (g1 : tv_ag 18 a1 t1) (g2 : tv_ag 2 a2 t2) (g3 : tv_ag 18 a3 t3) (h : tv_fb lg v w t1 t2 t3 k = true)
    (H : ∀ (f t3 : Nat), f ≤ 3003 → k f t3 = true → tv_W post (nI lg) t1 t2 t3 (tv_N f)) : wpX_findBoth post (nI lg, f2, f3, f4, f5, f6, a1, a2, a3, a4, a5, a6, a7, a8, a9, a10, a11, a12, a13, a14) (nI v) (nI w) := by
  unfold wpX_findBoth
  unfold tv_fb at h
  rw [tv_sh v hv, tv_sh w hw]
  refine tv_isv hv (br_f (by decide) (tv_isv hw (br_f (by decide) (tv_both_ok g1 g2 g3 h (fun r t3 hr h => ?_)))))
  intro f2 f3 f4 f5 f6 a1 a2 a3 a4 a5 a6 a7 a8 a9 a10 a11 a12 a13 a14 g1 g2 g3
  refine tv_eq h (fun e h => br_t (by rw [e]; rfl) (tv_Wa (H 0 t3 (by omega) h) g1 g2 g3)) (fun e h => br_f (nI_ne0 (by omega) (by omega)) ?_)
  refine tv_ask_ok (fun b13 g13 => tv_least_ok hl g1 g2 g3 g13 (Nat.lt_trans (tv_shl v hv) (by decide)) (Nat.lt_trans (tv_shl w hw) (by decide)) h (fun f hf h => ?_))
  exact H f t3 hf h
theorem tv_find_ok {post : Int32 → St2 → Prop} {lg t1 t2 t3 : Nat} (v : Nat) {k : Nat → Nat → Bool} (hl : lg < 3) (hv : v < 3) (g1 : tv_ag 18 a1 t1) (g2 : tv_ag 2 a2 t2) (g3 : tv_ag 18 a3 t3) (h : tv_find lg v t1 t2 t3 k = true)
    (H : ∀ (f t3 : Nat), f ≤ 3003 → k f t3 = true → tv_W post (nI lg) t1 t2 t3 (tv_N f)) : wpX_find post (nI lg, f2, f3, f4, f5, f6, a1, a2, a3, a4, a5, a6, a7, a8, a9, a10, a11, a12, a13, a14) 0 (nI v) := by
  unfold wpX_find
  unfold tv_find at h
  rw [tv_sh v hv]
  refine tv_isv hv (br_f (by decide) (tv_comp_ok (f := 0) (by omega) g1 g2 g3 h (fun r t3 hr h => ?_)))
  intro f2 f3 f4 f5 f6 a1 a2 a3 a4 a5 a6 a7 a8 a9 a10 a11 a12 a13 a14 g1 g2 g3
  refine tv_eq h (fun e h => br_t (by rw [e]; rfl) (tv_Wa (H 0 t3 (by omega) h) g1 g2 g3)) (fun e h => br_f (nI_ne0 (by omega) (by omega)) ?_)
  refine tv_ask1_ok (fun b13 g13 => tv_least_ok (ov := 7) hl g1 g2 g3 g13 (Nat.lt_trans (tv_shl v hv) (by decide)) (by decide) h (fun f hf h => ?_))
  exact H f t3 hf h
theorem tv_valid_ok {post : Int32 → St2 → Prop} {lg t1 t2 t3 : Nat} {k : Nat → Nat → Bool} (hl : lg < 3) (g1 : tv_ag 18 a1 t1) (g2 : tv_ag 2 a2 t2) (g3 : tv_ag 18 a3 t3) (h : tv_valid lg t1 t2 t3 k = true)
    (H : ∀ (r t3 : Nat), r ≤ 1 → k r t3 = true → tv_W post (nI lg) t1 t2 t3 (nI r)) : wpX_valid post (nI lg, f2, f3, f4, f5, f6, a1, a2, a3, a4, a5, a6, a7, a8, a9, a10, a11, a12, a13, a14) 0 := by
  unfold wpX_valid
  unfold tv_valid at h
  refine tv_comp_ok (f := 0) (by omega) g1 g2 g3 h (fun r t3 hr h => ?_)
  intro f2 f3 f4 f5 f6 a1 a2 a3 a4 a5 a6 a7 a8 a9 a10 a11 a12 a13 a14 g1 g2 g3
  refine tv_eq h (fun e h => br_t (by rw [e]; rfl) (tv_Wa (H 0 t3 (by omega) h) g1 g2 g3)) (fun e h => br_f (nI_ne0 (by omega) (by omega)) ?_)
  refine tv_ask1_ok (fun b13 g13 => tv_mw (fv := 3) (ov := 7) hl g1 g2 g3 g13 (by decide) (by decide) h (fun r hr h => ?_))
  intro f2 f3 f4 f5 f6 a1 a2 a3 a4 a5 a6 a7 a8 a9 a10 a11 a12 a13 a14 g1 g2 g3
  exact tv_eq h (fun e h => br_t (by rw [e]; rfl) (tv_Wa (H 1 t3 (by omega) h) g1 g2 g3)) (fun e h => br_f (nI_ne0 (by omega) (by omega)) (tv_Wa (H 0 t3 (by omega) h) g1 g2 g3))
theorem tv_vl_ok {post : Int32 → St2 → Prop} {lg t1 t2 t3 : Nat} {k : Nat → Bool} (hl : lg < 3)
    (H : ∀ (s : Nat), s < 8 → k s = true → tv_W post (nI lg) t1 t2 t3 (nI s)) :
    ∀ (n s v : Nat) (f2 f3 f4 f5 f6 : Int32) (a1 a2 a3 a4 a5 a6 a7 a8 a9 a10 a11 a12 a13 a14 : Nat → Int32), s < 8 → v ≤ 3 → tv_ag 18 a1 t1 → tv_ag 2 a2 t2 → tv_ag 18 a3 t3 → tv_vl lg t1 t3 k n s v = true → wX_values_14 post 0 n (nI s) (nI v) (nI lg) f2 f3 f4 f5 f6 a1 a2 a3 a4 a5 a6 a7 a8 a9 a10 a11 a12 a13 a14 := by
  intro n
  induction n with
  | zero =>
    intro s v f2 f3 f4 f5 f6 a1 a2 a3 a4 a5 a6 a7 a8 a9 a10 a11 a12 a13 a14 _ _ _ _ _ h
    exact absurd (show false = true from h) (by decide)
  | succ n ih =>
    intro s v f2 f3 f4 f5 f6 a1 a2 a3 a4 a5 a6 a7 a8 a9 a10 a11 a12 a13 a14 hs hv g1 g2 g3 h
    unfold tv_vl at h
    refine tv_le h (fun z h => br_t (nI_le z (by omega)) (tv_Wa (H s hs h) g1 g2 g3)) (fun z h => br_f (nI_ge (b := 3) z (by decide)) ?_)
    rw [tv_sh v z]
    refine tv_ask1_ok (fun b13 g13 => tv_mw (ov := 7) hl g1 g2 g3 g13 (Nat.lt_trans (tv_shl v z) (by decide)) (by decide) h (fun r hr h => ?_))
    intro f2 f3 f4 f5 f6 a1 a2 a3 a4 a5 a6 a7 a8 a9 a10 a11 a12 a13 a14 g1 g2 g3
    exact tv_eq h (fun e h => br_t (by rw [e]; rfl) (nm_r (nI_1 v) (ih s (v + 1) _ _ _ _ _ _ _ _ _ _ _ _ _ _ _ _ _ _ _ hs (by omega) g1 g2 g3 h))) (fun e h => br_f (nI_ne0 (by omega) (by omega)) (nm_r (e' := nI (Nat.lor s (Nat.shiftLeft 1 v))) (by rw [← tv_sh v z]; exact tv_or s hs v z) (nm_r (nI_1 v) (ih _ (v + 1) _ _ _ _ _ _ _ _ _ _ _ _ _ _ _ _ _ _ _ (tv_orl s hs v z) (by omega) g1 g2 g3 h))))
theorem tv_values_ok {post : Int32 → St2 → Prop} {lg t1 t2 t3 : Nat} {k : Nat → Nat → Bool} (hl : lg < 3) (g1 : tv_ag 18 a1 t1) (g2 : tv_ag 2 a2 t2) (g3 : tv_ag 18 a3 t3) (h : tv_values lg t1 t2 t3 k = true)
    (H : ∀ (r t3 : Nat), r < 8 → k r t3 = true → tv_W post (nI lg) t1 t2 t3 (nI r)) : wpX_values post (nI lg, f2, f3, f4, f5, f6, a1, a2, a3, a4, a5, a6, a7, a8, a9, a10, a11, a12, a13, a14) 0 := by
  unfold wpX_values
  unfold tv_values at h
  refine tv_comp_ok (f := 0) (by omega) g1 g2 g3 h (fun r t3 hr h => ?_)
  intro f2 f3 f4 f5 f6 a1 a2 a3 a4 a5 a6 a7 a8 a9 a10 a11 a12 a13 a14 g1 g2 g3
  refine tv_eq h (fun e h => br_t (by rw [e]; rfl) (tv_Wa (H 0 t3 (by omega) h) g1 g2 g3)) (fun e h => br_f (nI_ne0 (by omega) (by omega)) ⟨4, ?_⟩)
  exact tv_vl_ok hl (fun s hs h => H s t3 hs h) 4 0 0 _ _ _ _ _ _ _ _ _ _ _ _ _ _ _ _ _ _ _ (by omega) (by omega) g1 g2 g3 h
theorem tv_xm : ∀ v, v < 3 → (7 : Int32) &&& (((1 : Int32) <<< (nI v &&& 31)) ^^^ (-1)) = nI (Nat.sub 7 (Nat.shiftLeft 1 v)) := by decide +kernel
theorem tv_N0 : tv_N 0 < 0 := by decide
theorem tv_N1 {f : Nat} (h : f ≠ 0) (hf : f ≤ 3003) : ¬ tv_N f < 0 := by
  obtain ⟨n, rfl⟩ : ∃ n, f = n + 1 := ⟨f - 1, by omega⟩
  exact nI_pos (by omega)
theorem tv_Nle {b f : Nat} (h : b ≠ 0) (hf : f ≠ 0) (hb : b ≤ 3003) (hf' : f ≤ 3003) : tv_N b ≤ tv_N f ↔ b ≤ f := by
  obtain ⟨n, rfl⟩ : ∃ n, b = n + 1 := ⟨b - 1, by omega⟩
  obtain ⟨m, rfl⟩ : ∃ m, f = m + 1 := ⟨f - 1, by omega⟩
  show nI n ≤ nI m ↔ _
  rw [nI_leI (by omega) (by omega)]
  omega
theorem tv_ag_al {b : Nat → Int32} {t : Nat} (h : tv_ag 4 b t) {l v : Nat} (hv : v < 128) : tv_ag 4 (upd b l (nI v)) (tv_s t l v) := tv_ag_set h hv
theorem tv_fa_ok {post : Int32 → St2 → Prop} {lg t1 t2 t3 l : Nat} {k : Nat → Bool} (hl : lg < 3) (hl4 : l < 4)
    (H : ∀ (f : Nat), f ≤ 3003 → k f = true → tv_W post (nI lg) t1 t2 t3 (tv_N f)) :
    ∀ (n b v : Nat) (f2 f3 f4 f5 f6 : Int32) (a1 a2 a3 a4 a5 a6 a7 a8 a9 a10 a11 a12 a13 a14 : Nat → Int32), b ≤ 3003 → v ≤ 3 → tv_ag 18 a1 t1 → tv_ag 2 a2 t2 → tv_ag 18 a3 t3 → tv_fa lg t1 t3 l k n b v = true → wX_findApart_24 post 0 (nI l) n (tv_N b) (nI v) (nI lg) f2 f3 f4 f5 f6 a1 a2 a3 a4 a5 a6 a7 a8 a9 a10 a11 a12 a13 a14 := by
  intro n
  induction n with
  | zero =>
    intro b v f2 f3 f4 f5 f6 a1 a2 a3 a4 a5 a6 a7 a8 a9 a10 a11 a12 a13 a14 _ _ _ _ _ h
    exact absurd (show false = true from h) (by decide)
  | succ n ih =>
    intro b v f2 f3 f4 f5 f6 a1 a2 a3 a4 a5 a6 a7 a8 a9 a10 a11 a12 a13 a14 hb hv g1 g2 g3 h
    unfold tv_fa at h
    refine tv_le h (fun z h => br_t (nI_le z (by omega)) (tv_Wa (H b hb h) g1 g2 g3)) (fun z h => br_f (nI_ge (b := 3) z (by decide)) ?_)
    rw [tv_xm v z, tv_sh v z]
    have hsl : Nat.shiftLeft 1 v < 128 := Nat.lt_trans (tv_shl v z) (by decide)
    have hx : Nat.sub 7 (Nat.shiftLeft 1 v) < 128 := Nat.lt_of_le_of_lt (Nat.sub_le _ _) (by decide)
    refine tv_ask1_ok (fun b13 g13 => ⟨pk_in l 4 hl4, nm_r (e' := upd b13 l (nI (Nat.shiftLeft 1 v))) (by rw [tv_cl l, tv_nb _ hsl]) (tv_least_ok (ov := 7) hl g1 g2 g3 (tv_ag_al g13 hsl) hx (by decide) h (fun f hf h => ?_))⟩)
    intro f2 f3 f4 f5 f6 a1 a2 a3 a4 a5 a6 a7 a8 a9 a10 a11 a12 a13 a14 g1 g2 g3
    refine tv_eq h (fun e h => br_t (by rw [e]; exact tv_N0) (nm_r (nI_1 v) (ih b (v + 1) _ _ _ _ _ _ _ _ _ _ _ _ _ _ _ _ _ _ _ hb (by omega) g1 g2 g3 h))) (fun e h => br_f (tv_N1 e hf) ?_)
    refine tv_eq h (fun u h => br_t (by rw [u]; exact tv_N0) (nm_r (nI_1 v) (ih f (v + 1) _ _ _ _ _ _ _ _ _ _ _ _ _ _ _ _ _ _ _ hf (by omega) g1 g2 g3 h))) (fun u h => br_f (tv_N1 u hb) ?_)
    exact tv_le h (fun w h => br_t ((tv_Nle u e hb hf).mpr w) (nm_r (nI_1 v) (ih b (v + 1) _ _ _ _ _ _ _ _ _ _ _ _ _ _ _ _ _ _ _ hb (by omega) g1 g2 g3 h))) (fun w h => br_f (fun q => absurd ((tv_Nle u e hb hf).mp q) (by omega)) (nm_r (nI_1 v) (ih f (v + 1) _ _ _ _ _ _ _ _ _ _ _ _ _ _ _ _ _ _ _ hf (by omega) g1 g2 g3 h)))
theorem tv_apart_ok {post : Int32 → St2 → Prop} {lg l t1 t2 t3 : Nat} {k : Nat → Nat → Bool} (hl : lg < 3) (hl4 : l < 4) (g1 : tv_ag 18 a1 t1) (g2 : tv_ag 2 a2 t2) (g3 : tv_ag 18 a3 t3) (h : tv_apart lg l t1 t2 t3 k = true)
    (H : ∀ (f t3 : Nat), f ≤ 3003 → k f t3 = true → tv_W post (nI lg) t1 t2 t3 (tv_N f)) : wpX_findApart post (nI lg, f2, f3, f4, f5, f6, a1, a2, a3, a4, a5, a6, a7, a8, a9, a10, a11, a12, a13, a14) 0 (nI l) := by
  unfold wpX_findApart
  unfold tv_apart at h
  refine br_f (nI_pos (by omega)) (br_f (nI_ge (b := 4) hl4 (by decide)) (tv_comp_ok (f := 0) (by omega) g1 g2 g3 h (fun r t3 hr h => ?_)))
  intro f2 f3 f4 f5 f6 a1 a2 a3 a4 a5 a6 a7 a8 a9 a10 a11 a12 a13 a14 g1 g2 g3
  refine tv_eq h (fun e h => br_t (by rw [e]; rfl) (tv_Wa (H 0 t3 (by omega) h) g1 g2 g3)) (fun e h => br_f (nI_ne0 (by omega) (by omega)) ⟨4, ?_⟩)
  exact tv_fa_ok hl hl4 (fun f hf h => H f t3 hf h) 4 0 0 _ _ _ _ _ _ _ _ _ _ _ _ _ _ _ _ _ _ _ (by omega) (by omega) g1 g2 g3 h
end
end
section
section
variable {f2 f3 f4 f5 f6 : Int32} {a1 a2 a3 a4 a5 a6 a7 a8 a9 a10 a11 a12 a13 a14 : Nat → Int32} {post : Int32 → St0 → Prop} {mc ms kc ks lg l m t1 t2 t3 : Nat}
/-! ===== the law, from its end ===== -/
theorem tv_step_ok {P : Int32 → Prop} (hl : l < 4) (H : P (nI (tv_step l))) : wpL_step P () (nI l) := by
  unfold tv_step at H
  refine pk_eq l 0 (fun e => ?_) (fun e => pk_eq l 1 (fun e' => ?_) (fun e' => pk_eq l 2 (fun e'' => ?_) (fun e'' => ?_)))
  · rw [tv_bt e] at H
    exact H
  · rw [tv_bf e, tv_bt e'] at H
    exact H
  · rw [tv_bf e, tv_bf e', tv_bt e''] at H
    exact H
  · rw [tv_bf e, tv_bf e', tv_bf e''] at H
    exact H
theorem tv_same_l : tv_same l m < 2 := by
  unfold tv_same
  cases Nat.beq l m
  · show 0 < 2
    omega
  · show 1 < 2
    omega
theorem tv_L6_ok (hl : lg < 3) (g1 : tv_ag 18 a1 t1) (g2 : tv_ag 2 a2 t2) (g3 : tv_ag 18 a3 t3) (hp : post 1 ()) (h : tv_L6 lg m t1 t2 t3 = true) : wL_lawOf_481 post mc ms (nI lg) (nI (4 + m)) 1 kc ks (nI lg) f2 f3 f4 f5 f6 a1 a2 a3 a4 a5 a6 a7 a8 a9 a10 a11 a12 a13 a14 := by
  unfold tv_L6 at h
  unfold wL_lawOf_481
  refine tv_bk_ok (f := 1) (by omega) g1 g2 g3 h (fun r t2 hr h => ?_)
  intro f2 f3 f4 f5 f6 a1 a2 a3 a4 a5 a6 a7 a8 a9 a10 a11 a12 a13 a14 g1 g2 g3
  obtain ⟨e, h⟩ := tv_ae h
  refine br_f (by decide) (br_t (by rw [e]; rfl) (tv_alike_ok hl g1 g2 g3 h (fun r t3 hr h => ?_)))
  intro f2 f3 f4 f5 f6 a1 a2 a3 a4 a5 a6 a7 a8 a9 a10 a11 a12 a13 a14 g1 g2 g3
  obtain ⟨e, h⟩ := tv_ae h
  refine br_t (by rw [e]; rfl) (tv_fb_ok 2 2 hl (by omega) (by omega) g1 g2 g3 h (fun f t3 hf h => ?_))
  intro f2 f3 f4 f5 f6 a1 a2 a3 a4 a5 a6 a7 a8 a9 a10 a11 a12 a13 a14 g1 g2 g3
  obtain ⟨e, h⟩ := tv_ae h
  exact br_t (by rw [e]; rfl) (br_t rfl hp)
theorem tv_A453 {z : Int32} (hl : lg < 3) (g1 : tv_ag 18 a1 t1) (g2 : tv_ag 2 a2 t2) (g3 : tv_ag 18 a3 t3) (hp : post 1 ()) (h : tv_values lg t1 t2 t3 (fun s t3 => tv_q s (cond (Nat.beq lg 2) 5 7) (tv_L6 lg m t1 t2 t3)) = true) : wL_lawOf_453 post mc ms (nI lg) (nI (4 + m)) z z kc ks (nI lg) f2 f3 f4 f5 f6 a1 a2 a3 a4 a5 a6 a7 a8 a9 a10 a11 a12 a13 a14 := by
  unfold wL_lawOf_453
  refine br_t rfl (tv_values_ok hl g1 g2 g3 h (fun s t3 hs h => ?_))
  intro f2 f3 f4 f5 f6 a1 a2 a3 a4 a5 a6 a7 a8 a9 a10 a11 a12 a13 a14 g1 g2 g3
  obtain ⟨e, h⟩ := tv_ae h
  refine pk_eq lg 2 (fun u => br_t ?_ (tv_L6_ok hl g1 g2 g3 hp h)) (fun u => br_t ?_ (tv_L6_ok hl g1 g2 g3 hp h))
  · rw [e, tv_bt u]
    rfl
  · rw [e, tv_bf u]
    rfl
theorem tv_A430 {z : Int32} (hl : lg < 3) (g1 : tv_ag 18 a1 t1) (g2 : tv_ag 2 a2 t2) (g3 : tv_ag 18 a3 t3) (hp : post 1 ())
    (h : tv_alike lg t1 t2 t3 (fun r t3 => tv_q r (cond (Nat.beq lg 2) 0 (tv_same l m)) (tv_values lg t1 t2 t3 (fun s t3 => tv_q s (cond (Nat.beq lg 2) 5 7) (tv_L6 lg m t1 t2 t3)))) = true) : wL_lawOf_430 post mc ms (nI lg) (nI (4 + m)) (nI (tv_same l m)) z z kc ks (nI lg) f2 f3 f4 f5 f6 a1 a2 a3 a4 a5 a6 a7 a8 a9 a10 a11 a12 a13 a14 := by
  have hs : tv_same l m < 2 := tv_same_l
  unfold wL_lawOf_430
  refine br_t rfl (tv_alike_ok hl g1 g2 g3 h (fun r t3 hr h => ?_))
  intro f2 f3 f4 f5 f6 a1 a2 a3 a4 a5 a6 a7 a8 a9 a10 a11 a12 a13 a14 g1 g2 g3
  obtain ⟨e, h⟩ := tv_ae h
  refine pk_eq (tv_same l m) 0 (fun u => ?_) (fun u => pk_eq lg 2 (fun w => ?_) (fun w => ?_))
  · have e0 : r = 0 := by
      rw [e, u]
      cases Nat.beq lg 2 <;> rfl
    rw [e0]
    exact tv_A453 (z := 0) hl g1 g2 g3 hp h
  · have e0 : r = 0 := by
      rw [e, tv_bt w]
      rfl
    rw [e0]
    exact tv_A453 (z := 0) hl g1 g2 g3 hp h
  · have e0 : r = 1 := by
      rw [e, tv_bf w]
      show tv_same l m = 1
      omega
    rw [e0]
    exact tv_A453 (z := 1) hl g1 g2 g3 hp h
theorem tv_L5_ok {n : Nat} (hl : lg < 3) (hl4 : l < 4) (g1 : tv_ag 18 a1 t1) (g2 : tv_ag 2 a2 t2) (g3 : tv_ag 18 a3 t3) (hp : post 1 ()) (h : tv_L5 lg l m t1 t2 t3 = true) : wL_lawOf_356 post mc ms (nI lg) (nI l) (nI (4 + l)) (nI (4 + m)) (nI (tv_same l m)) 1 kc ks (n + 1) (nI 3) (nI lg) f2 f3 f4 f5 f6 a1 a2 a3 a4 a5 a6 a7 a8 a9 a10 a11 a12 a13 a14 := by
  unfold tv_L5 at h
  refine pk_le 3 3 (fun _ => ?_) (fun z => absurd z (by omega))
  refine tv_feed_ok (f := 0) (tok := 0) (by omega) (by omega) rfl g1 g2 g3 h (fun r t1 t2 t3 hr h => ?_)
  intro f2 f3 f4 f5 f6 a1 a2 a3 a4 a5 a6 a7 a8 a9 a10 a11 a12 a13 a14 g1 g2 g3
  refine tv_feed_ok (f := 0) (tok := 0) (by omega) (by omega) rfl g1 g2 g3 h (fun r t1 t2 t3 hr h => ?_)
  intro f2 f3 f4 f5 f6 a1 a2 a3 a4 a5 a6 a7 a8 a9 a10 a11 a12 a13 a14 g1 g2 g3
  refine tv_feed_ok (f := 0) (tok := 4 + l) (by omega) (by omega) rfl g1 g2 g3 h (fun r t1 t2 t3 hr h => ?_)
  intro f2 f3 f4 f5 f6 a1 a2 a3 a4 a5 a6 a7 a8 a9 a10 a11 a12 a13 a14 g1 g2 g3
  obtain ⟨e, h⟩ := tv_ae h
  refine br_f (by decide) (br_t (by rw [e]; rfl) (tv_apart_ok hl hl4 g1 g2 g3 h (fun f t3 hf h => ?_)))
  intro f2 f3 f4 f5 f6 a1 a2 a3 a4 a5 a6 a7 a8 a9 a10 a11 a12 a13 a14 g1 g2 g3
  obtain ⟨e, h⟩ := tv_ae h
  refine pk_eq lg 2 (fun u => tv_step_ok hl4 ?_) (fun u => ?_)
  · have e0 : f = tv_step l + 1 := by
      rw [e, tv_bt u]
      rfl
    rw [e0]
    exact tv_A430 hl g1 g2 g3 hp h
  · have e0 : f = 0 := by
      rw [e, tv_bf u]
      rfl
    rw [e0]
    exact tv_A430 hl g1 g2 g3 hp h
theorem tv_B356 (hl : lg < 3) (hl4 : l < 4) (hp : post 1 ()) : ∀ (j i t2 : Nat) (f2 f3 f4 f5 f6 : Int32) (a1 a2 a3 a4 a5 a6 a7 a8 a9 a10 a11 a12 a13 a14 : Nat → Int32), i + j = 3 → tv_ag 18 a1 t1 → tv_ag 2 a2 t2 → tv_ag 18 a3 t3 → tv_bks t1 (fun t2 => tv_L5 lg l m t1 t2 t3) j t2 = true → wL_lawOf_356 post mc ms (nI lg) (nI l) (nI (4 + l)) (nI (4 + m)) (nI (tv_same l m)) 1 kc ks (j + 1) (nI i) (nI lg) f2 f3 f4 f5 f6 a1 a2 a3 a4 a5 a6 a7 a8 a9 a10 a11 a12 a13 a14 := by
  intro j
  induction j with
  | zero =>
    intro i t2 f2 f3 f4 f5 f6 a1 a2 a3 a4 a5 a6 a7 a8 a9 a10 a11 a12 a13 a14 hi g1 g2 g3 h
    have e : i = 3 := by omega
    subst e
    exact tv_L5_ok hl hl4 g1 g2 g3 hp h
  | succ j ih =>
    intro i t2 f2 f3 f4 f5 f6 a1 a2 a3 a4 a5 a6 a7 a8 a9 a10 a11 a12 a13 a14 hi g1 g2 g3 h
    unfold tv_bks at h
    refine pk_le 3 i (fun z => absurd z (by omega)) (fun _ => tv_bk_ok (f := 0) (by omega) g1 g2 g3 h (fun r t2 hr h => ?_))
    intro f2 f3 f4 f5 f6 a1 a2 a3 a4 a5 a6 a7 a8 a9 a10 a11 a12 a13 a14 g1 g2 g3
    exact nm_r (nI_1 i) (ih (i + 1) t2 _ _ _ _ _ _ _ _ _ _ _ _ _ _ _ _ _ _ _ (by omega) g1 g2 g3 h)
theorem tv_A343 {z : Int32} (hl : lg < 3) (hl4 : l < 4) (g1 : tv_ag 18 a1 t1) (g2 : tv_ag 2 a2 t2) (g3 : tv_ag 18 a3 t3) (hp : post 1 ()) (h : tv_bks t1 (fun t2 => tv_L5 lg l m t1 t2 t3) 3 t2 = true) : wL_lawOf_343 post mc ms (nI lg) (nI l) (nI (4 + l)) (nI (4 + m)) (nI (tv_same l m)) z z kc ks (nI lg) f2 f3 f4 f5 f6 a1 a2 a3 a4 a5 a6 a7 a8 a9 a10 a11 a12 a13 a14 :=
  br_t rfl ⟨4, tv_B356 hl hl4 hp 3 0 t2 _ _ _ _ _ _ _ _ _ _ _ _ _ _ _ _ _ _ _ (by omega) g1 g2 g3 h⟩
theorem tv_A319 {z : Int32} (hl : lg < 3) (hl4 : l < 4) (g1 : tv_ag 18 a1 t1) (g2 : tv_ag 2 a2 t2) (g3 : tv_ag 18 a3 t3) (hp : post 1 ())
    (h : tv_find lg 1 t1 t2 t3 (fun f t3 => tv_q f (cond (Nat.beq lg 1) (Nat.add (tv_step l) 1) 0) (tv_bks t1 (fun t2 => tv_L5 lg l m t1 t2 t3) 3 t2)) = true) : wL_lawOf_319 post mc ms (nI lg) (nI l) (nI (4 + l)) (nI (4 + m)) (nI (tv_same l m)) z z kc ks (nI lg) f2 f3 f4 f5 f6 a1 a2 a3 a4 a5 a6 a7 a8 a9 a10 a11 a12 a13 a14 := by
  unfold wL_lawOf_319
  refine br_t rfl (tv_find_ok 1 hl (by omega) g1 g2 g3 h (fun f t3 hf h => ?_))
  intro f2 f3 f4 f5 f6 a1 a2 a3 a4 a5 a6 a7 a8 a9 a10 a11 a12 a13 a14 g1 g2 g3
  obtain ⟨e, h⟩ := tv_ae h
  refine pk_eq lg 1 (fun u => tv_step_ok hl4 ?_) (fun u => ?_)
  · have e0 : f = tv_step l + 1 := by
      rw [e, tv_bt u]
      rfl
    rw [e0]
    exact tv_A343 hl hl4 g1 g2 g3 hp h
  · have e0 : f = 0 := by
      rw [e, tv_bf u]
      rfl
    rw [e0]
    exact tv_A343 hl hl4 g1 g2 g3 hp h
theorem tv_A299 {z : Int32} (hl : lg < 3) (hl4 : l < 4) (g1 : tv_ag 18 a1 t1) (g2 : tv_ag 2 a2 t2) (g3 : tv_ag 18 a3 t3) (hp : post 1 ())
    (h : tv_values lg t1 t2 t3 (fun s t3 => tv_q s (cond (Nat.beq lg 1) 6 4) (tv_find lg 1 t1 t2 t3 (fun f t3 => tv_q f (cond (Nat.beq lg 1) (Nat.add (tv_step l) 1) 0) (tv_bks t1 (fun t2 => tv_L5 lg l m t1 t2 t3) 3 t2)))) = true) : wL_lawOf_299 post mc ms (nI lg) (nI l) (nI (4 + l)) (nI (4 + m)) (nI (tv_same l m)) z z kc ks (nI lg) f2 f3 f4 f5 f6 a1 a2 a3 a4 a5 a6 a7 a8 a9 a10 a11 a12 a13 a14 := by
  unfold wL_lawOf_299
  refine br_t rfl (tv_values_ok hl g1 g2 g3 h (fun s t3 hs h => ?_))
  intro f2 f3 f4 f5 f6 a1 a2 a3 a4 a5 a6 a7 a8 a9 a10 a11 a12 a13 a14 g1 g2 g3
  obtain ⟨e, h⟩ := tv_ae h
  refine pk_eq lg 1 (fun u => ?_) (fun u => ?_)
  · have e0 : s = 6 := by
      rw [e, tv_bt u]
      rfl
    rw [e0]
    exact tv_A319 hl hl4 g1 g2 g3 hp h
  · have e0 : s = 4 := by
      rw [e, tv_bf u]
      rfl
    rw [e0]
    exact tv_A319 hl hl4 g1 g2 g3 hp h
theorem tv_L4_ok {n : Nat} (hl : lg < 3) (hl4 : l < 4) (g1 : tv_ag 18 a1 t1) (g2 : tv_ag 2 a2 t2) (g3 : tv_ag 18 a3 t3) (hp : post 1 ()) (h : tv_L4 lg l m t1 t2 t3 = true) : wL_lawOf_237 post mc ms (nI lg) (nI l) (nI (4 + l)) (nI (4 + m)) (nI (tv_same l m)) 1 kc ks (n + 1) (nI 5) (nI lg) f2 f3 f4 f5 f6 a1 a2 a3 a4 a5 a6 a7 a8 a9 a10 a11 a12 a13 a14 := by
  unfold tv_L4 at h
  refine pk_le 5 5 (fun _ => ?_) (fun z => absurd z (by omega))
  refine tv_feed_ok (f := 0) (tok := 3) (by omega) (by omega) rfl g1 g2 g3 h (fun r t1 t2 t3 hr h => ?_)
  intro f2 f3 f4 f5 f6 a1 a2 a3 a4 a5 a6 a7 a8 a9 a10 a11 a12 a13 a14 g1 g2 g3
  refine tv_feed_ok (f := 0) (tok := 4 + l) (by omega) (by omega) rfl g1 g2 g3 h (fun r t1 t2 t3 hr h => ?_)
  intro f2 f3 f4 f5 f6 a1 a2 a3 a4 a5 a6 a7 a8 a9 a10 a11 a12 a13 a14 g1 g2 g3
  refine tv_feed_ok (f := 0) (tok := 4 + l) (by omega) (by omega) rfl g1 g2 g3 h (fun r t1 t2 t3 hr h => ?_)
  intro f2 f3 f4 f5 f6 a1 a2 a3 a4 a5 a6 a7 a8 a9 a10 a11 a12 a13 a14 g1 g2 g3
  refine br_f (by decide) (tv_valid_ok hl g1 g2 g3 h (fun r t3 hr h => ?_))
  intro f2 f3 f4 f5 f6 a1 a2 a3 a4 a5 a6 a7 a8 a9 a10 a11 a12 a13 a14 g1 g2 g3
  obtain ⟨e, h⟩ := tv_ae h
  refine pk_eq lg 1 (fun u => ?_) (fun u => ?_)
  · have e0 : r = 0 := by
      rw [e, tv_bt u]
      rfl
    rw [e0]
    exact tv_A299 hl hl4 g1 g2 g3 hp h
  · have e0 : r = 1 := by
      rw [e, tv_bf u]
      rfl
    rw [e0]
    exact tv_A299 hl hl4 g1 g2 g3 hp h
theorem tv_B237 (hl : lg < 3) (hl4 : l < 4) (hp : post 1 ()) : ∀ (j i t2 : Nat) (f2 f3 f4 f5 f6 : Int32) (a1 a2 a3 a4 a5 a6 a7 a8 a9 a10 a11 a12 a13 a14 : Nat → Int32), i + j = 5 → tv_ag 18 a1 t1 → tv_ag 2 a2 t2 → tv_ag 18 a3 t3 → tv_bks t1 (fun t2 => tv_L4 lg l m t1 t2 t3) j t2 = true → wL_lawOf_237 post mc ms (nI lg) (nI l) (nI (4 + l)) (nI (4 + m)) (nI (tv_same l m)) 1 kc ks (j + 1) (nI i) (nI lg) f2 f3 f4 f5 f6 a1 a2 a3 a4 a5 a6 a7 a8 a9 a10 a11 a12 a13 a14 := by
  intro j
  induction j with
  | zero =>
    intro i t2 f2 f3 f4 f5 f6 a1 a2 a3 a4 a5 a6 a7 a8 a9 a10 a11 a12 a13 a14 hi g1 g2 g3 h
    have e : i = 5 := by omega
    subst e
    exact tv_L4_ok hl hl4 g1 g2 g3 hp h
  | succ j ih =>
    intro i t2 f2 f3 f4 f5 f6 a1 a2 a3 a4 a5 a6 a7 a8 a9 a10 a11 a12 a13 a14 hi g1 g2 g3 h
    unfold tv_bks at h
    refine pk_le 5 i (fun z => absurd z (by omega)) (fun _ => tv_bk_ok (f := 0) (by omega) g1 g2 g3 h (fun r t2 hr h => ?_))
    intro f2 f3 f4 f5 f6 a1 a2 a3 a4 a5 a6 a7 a8 a9 a10 a11 a12 a13 a14 g1 g2 g3
    exact nm_r (nI_1 i) (ih (i + 1) t2 _ _ _ _ _ _ _ _ _ _ _ _ _ _ _ _ _ _ _ (by omega) g1 g2 g3 h)
theorem tv_L3_ok (hl : lg < 3) (hl4 : l < 4) (g1 : tv_ag 18 a1 t1) (g2 : tv_ag 2 a2 t2) (g3 : tv_ag 18 a3 t3) (hp : post 1 ()) (h : tv_L3 lg l m t1 t2 t3 = true) : wL_lawOf_208 post mc ms (nI lg) (nI l) (nI (4 + l)) (nI (4 + m)) (nI (tv_same l m)) kc ks (nI lg) f2 f3 f4 f5 f6 a1 a2 a3 a4 a5 a6 a7 a8 a9 a10 a11 a12 a13 a14 := by
  unfold tv_L3 at h
  unfold wL_lawOf_208
  refine tv_fb_ok 2 1 hl (by omega) (by omega) g1 g2 g3 h (fun f t3 hf h => ?_)
  intro f2 f3 f4 f5 f6 a1 a2 a3 a4 a5 a6 a7 a8 a9 a10 a11 a12 a13 a14 g1 g2 g3
  obtain ⟨e, h⟩ := tv_ae h
  refine br_t (by rw [e]; rfl) (tv_alike_ok hl g1 g2 g3 h (fun r t3 hr h => ?_))
  intro f2 f3 f4 f5 f6 a1 a2 a3 a4 a5 a6 a7 a8 a9 a10 a11 a12 a13 a14 g1 g2 g3
  obtain ⟨e, h⟩ := tv_ae h
  exact br_t (by rw [e]) ⟨6, tv_B237 hl hl4 hp 5 0 t2 _ _ _ _ _ _ _ _ _ _ _ _ _ _ _ _ _ _ _ (by omega) g1 g2 g3 h⟩
theorem tv_same_0 (h : l ≠ m) : tv_same l m = 0 := by
  unfold tv_same
  rw [tv_bf h]
  rfl
theorem tv_same_1 (h : l = m) : tv_same l m = 1 := by
  unfold tv_same
  rw [tv_bt h]
  rfl
theorem tv_L2_ok (hl : lg < 3) (hl4 : l < 4) (g1 : tv_ag 18 a1 t1) (g2 : tv_ag 2 a2 t2) (g3 : tv_ag 18 a3 t3) (hp : post 1 ()) (h : tv_L2 lg l m t1 t2 t3 = true) : wL_lawOf_172 post mc ms (nI lg) (nI l) (nI (4 + l)) (nI (4 + m)) (nI (tv_same l m)) 1 kc ks (nI lg) f2 f3 f4 f5 f6 a1 a2 a3 a4 a5 a6 a7 a8 a9 a10 a11 a12 a13 a14 := by
  unfold tv_L2 at h
  unfold wL_lawOf_172
  refine br_f (by decide) (tv_eq h (fun e h => br_f (by rw [tv_same_1 e]; decide) (tv_L3_ok hl hl4 g1 g2 g3 hp h)) (fun e h => br_t (by rw [tv_same_0 e]; rfl) ?_))
  refine tv_fb_ok 1 0 hl (by omega) (by omega) g1 g2 g3 h (fun f t3 hf h => ?_)
  intro f2 f3 f4 f5 f6 a1 a2 a3 a4 a5 a6 a7 a8 a9 a10 a11 a12 a13 a14 g1 g2 g3
  obtain ⟨e, h⟩ := tv_ae h
  refine pk_eq lg 2 (fun u => ?_) (fun u => tv_step_ok hl4 ?_)
  · have e0 : f = 0 := by
      rw [e, tv_bt u]
      rfl
    rw [e0]
    exact br_t rfl (tv_L3_ok hl hl4 g1 g2 g3 hp h)
  · have e0 : f = tv_step l + 1 := by
      rw [e, tv_bf u]
      rfl
    rw [e0]
    exact br_t rfl (tv_L3_ok hl hl4 g1 g2 g3 hp h)
theorem tv_L1_ok (hl : lg < 3) (hl4 : l < 4) (hm4 : m < 4) (g1 : tv_ag 18 a1 0) (g2 : tv_ag 2 a2 0) (g3 : tv_ag 18 a3 0) (hp : post 1 ()) (h : tv_L1 lg l m = true) : wL_lawOf_59 post mc ms (nI lg) 1 (nI l) (nI (4 + l)) (nI (4 + m)) (nI (tv_same l m)) kc ks (nI lg) f2 f3 f4 f5 f6 a1 a2 a3 a4 a5 a6 a7 a8 a9 a10 a11 a12 a13 a14 := by
  unfold tv_L1 at h
  unfold wL_lawOf_59
  refine tv_feed_ok (f := 0) (tok := 1) (by omega) (by omega) rfl g1 g2 g3 h (fun r t1 t2 t3 hr h => ?_)
  intro f2 f3 f4 f5 f6 a1 a2 a3 a4 a5 a6 a7 a8 a9 a10 a11 a12 a13 a14 g1 g2 g3
  refine tv_feed_ok (f := 0) (tok := 4 + l) (by omega) (by omega) rfl g1 g2 g3 h (fun r t1 t2 t3 hr h => ?_)
  intro f2 f3 f4 f5 f6 a1 a2 a3 a4 a5 a6 a7 a8 a9 a10 a11 a12 a13 a14 g1 g2 g3
  refine tv_feed_ok (f := 0) (tok := 3) (by omega) (by omega) rfl g1 g2 g3 h (fun r t1 t2 t3 hr h => ?_)
  intro f2 f3 f4 f5 f6 a1 a2 a3 a4 a5 a6 a7 a8 a9 a10 a11 a12 a13 a14 g1 g2 g3
  refine tv_feed_ok (f := 0) (tok := 4 + l) (by omega) (by omega) rfl g1 g2 g3 h (fun r t1 t2 t3 hr h => ?_)
  intro f2 f3 f4 f5 f6 a1 a2 a3 a4 a5 a6 a7 a8 a9 a10 a11 a12 a13 a14 g1 g2 g3
  refine tv_feed_ok (f := 0) (tok := 4 + m) (by omega) (by omega) rfl g1 g2 g3 h (fun five t1 t2 t3 hr h => ?_)
  intro f2 f3 f4 f5 f6 a1 a2 a3 a4 a5 a6 a7 a8 a9 a10 a11 a12 a13 a14 g1 g2 g3
  refine tv_entails_ok hl g1 g2 g3 h (fun op t3 hr h => ?_)
  intro f2 f3 f4 f5 f6 a1 a2 a3 a4 a5 a6 a7 a8 a9 a10 a11 a12 a13 a14 g1 g2 g3
  refine tv_feed_ok (f := 1) (tok := 4 + m) (by omega) (by omega) rfl g1 g2 g3 h (fun one t1 t2 t3 hr h => ?_)
  intro f2 f3 f4 f5 f6 a1 a2 a3 a4 a5 a6 a7 a8 a9 a10 a11 a12 a13 a14 g1 g2 g3
  obtain ⟨e5, h⟩ := tv_ae h
  obtain ⟨e0, h⟩ := tv_ae h
  obtain ⟨e1, h⟩ := tv_ae h
  refine br_f (by decide) (br_t (by rw [e5]; rfl) (br_t (by rw [e0]; rfl) (br_t (by rw [e1]; rfl) (tv_entails_ok hl g1 g2 g3 h (fun r t3 hr h => ?_)))))
  intro f2 f3 f4 f5 f6 a1 a2 a3 a4 a5 a6 a7 a8 a9 a10 a11 a12 a13 a14 g1 g2 g3
  obtain ⟨e, h⟩ := tv_ae h
  refine br_f (by rw [e]; decide) (tv_below_ok hl g1 g2 g3 h (fun r t3 hr h => ?_))
  intro f2 f3 f4 f5 f6 a1 a2 a3 a4 a5 a6 a7 a8 a9 a10 a11 a12 a13 a14 g1 g2 g3
  obtain ⟨e, h⟩ := tv_ae h
  have hs : tv_same l m < 2 := tv_same_l
  refine pk_eq (tv_same l m) 0 (fun u => pk_eq lg 2 (fun w => ?_) (fun w => ?_)) (fun u => ?_)
  · refine br_t (c := nI r = 1) ?_ (tv_L2_ok hl hl4 g1 g2 g3 hp h)
    rw [e, tv_bt w]
    rfl
  · refine br_t (c := nI r = 0) ?_ (tv_L2_ok hl hl4 g1 g2 g3 hp h)
    rw [e, tv_bf w, u]
    rfl
  · refine br_t (c := nI r = 1) ?_ (tv_L2_ok hl hl4 g1 g2 g3 hp h)
    have q : tv_same l m = 1 := by omega
    rw [e, q]
    cases Nat.beq lg 2 <;> rfl
end
end
section
section
theorem tv_cellAt {post : Int32 → Prop} {L : Nat} {xs : Nat → Int32} (j : Nat) (hL : L ≤ 3) (hj : j < 3) (H : ∀ r, post r) : wpL_cellAt post L xs () (nI j) :=
  pk_le L j (fun _ => H 0) (fun z => ⟨pk_in j L z, H _⟩)
theorem tv_lawOf {post : Int32 → St0 → Prop} (p0 p1 p2 : Int32) (hp : post 1 ()) : wpL_lawOf post 76 1216 () p0 p1 p2 := by
  obtain ⟨a, ha, ea⟩ := pk_andE p0 (m := 65535) 16 (by decide)
  obtain ⟨l, hl, el⟩ := pk_andE p1 (m := 3) 2 (by decide)
  obtain ⟨m, hm, em⟩ := pk_andE p2 (m := 3) 2 (by decide)
  have h := tv_L1_all (a % 3) (Nat.mod_lt _ (by decide)) l hl m hm
  have hlg : a % 3 < 3 := Nat.mod_lt _ (by decide)
  have hl' : l < 4 := hl
  have hm' : m < 4 := hm
  have e4 : (p0 &&& 65535) - (p0 &&& 65535) / 3 * 3 = nI (a % 3) := by
    rw [ea]
    exact pk_rem (d := 3) (by omega) (by decide) (by decide)
  refine ⟨by decide, by decide, 14, 232, by decide, by decide, ?_⟩
  refine ⟨by decide, by decide, by decide, by decide, by decide, by decide, by decide, by decide, by decide, by decide, by decide, by decide, by decide, by decide, by decide, by decide, by decide, by decide, by decide, by decide, by decide, by decide, by decide, by decide, by decide, by decide, by decide, by decide, br_t (by decide) (br_t (by decide) ?_)⟩
  refine ⟨by decide, nm_r (e' := nI (a % 3)) e4 ?_⟩
  refine br_f (nI_pos (by omega)) (br_t (nI_le (b := 2) (by omega) (by decide)) ?_)
  refine nm_r (e' := nI l) el (nm_r (e' := nI m) em (nm_r (e' := nI (4 + l)) (nI_add 4 l) (nm_r (e' := nI (4 + m)) (nI_add 4 m) ?_)))
  refine pk_eq l m (fun e => ?_) (fun e => ?_)
  · have k : wL_lawOf_59 post 76 1216 (nI (a % 3)) 1 (nI l) (nI (4 + l)) (nI (4 + m)) (nI (tv_same l m)) (1 + 14) (20 + 232) (nI (a % 3)) 0 0 0 0 0 (fun _ => 0) (fun _ => 0) (fun _ => 0) (fun _ => 0) (fun _ => 0) (fun _ => 0) (fun _ => 0) (fun _ => 0) (fun _ => 0) (fun _ => 0) (fun _ => 0) (fun _ => 0) (fun _ => 0) (fun _ => 0) :=
      tv_L1_ok hlg hl' hm' (tv_ag_0 18) (tv_ag_0 2) (tv_ag_0 18) hp h
    rw [tv_same_1 e] at k
    exact k
  · have k : wL_lawOf_59 post 76 1216 (nI (a % 3)) 1 (nI l) (nI (4 + l)) (nI (4 + m)) (nI (tv_same l m)) (1 + 14) (20 + 232) (nI (a % 3)) 0 0 0 0 0 (fun _ => 0) (fun _ => 0) (fun _ => 0) (fun _ => 0) (fun _ => 0) (fun _ => 0) (fun _ => 0) (fun _ => 0) (fun _ => 0) (fun _ => 0) (fun _ => 0) (fun _ => 0) (fun _ => 0) (fun _ => 0) :=
      tv_L1_ok hlg hl' hm' (tv_ag_0 18) (tv_ag_0 2) (tv_ag_0 18) hp h
    rw [tv_same_0 e] at k
    exact k
end
theorem i_vc (xs : Nat → Int32) (L : Nat) (hL : L ≤ 3) : wpL_law (fun r => r = 1) L xs :=
  tv_cellAt 0 hL (by omega) (fun r1 => tv_cellAt 1 hL (by omega) (fun r2 => tv_cellAt 2 hL (by omega) (fun r3 => ⟨76, 1216, by decide, by decide, tv_lawOf r1 r2 r3 rfl⟩)))
end
