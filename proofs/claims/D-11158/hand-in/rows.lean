section
/-! ===== the machine of pictures: one number S holds the bytes of a state; 0 means: outside of what is modelled ===== -/
/-- byte k of S -/
def em_g (S k : Nat) : Nat := Nat.land (Nat.shiftRight S (Nat.mul 8 k)) 255
/-- byte k of S set to v -/
def em_s (S k v : Nat) : Nat := Nat.xor S (Nat.shiftLeft (Nat.xor (em_g S k) v) (Nat.mul 8 k))
/-- go on with a state that isn't 0 -/
noncomputable def em_b (S : Nat) (f : Nat → Nat) : Nat := Nat.rec (motive := fun _ => Nat) 0 (fun n _ => f (Nat.succ n)) S
/-- go on with a number, worked out first -/
noncomputable def em_f (v : Nat) (f : Nat → Nat) : Nat := Nat.rec (motive := fun _ => Nat) (f 0) (fun n _ => f (Nat.succ n)) v
noncomputable def em_c (b : Bool) (x y : Nat) : Nat := Bool.rec (motive := fun _ => Nat) y x b
noncomputable def em_a (x y : Bool) : Bool := Bool.rec (motive := fun _ => Bool) false y x
noncomputable def em_o (x y : Bool) : Bool := Bool.rec (motive := fun _ => Bool) y true x
noncomputable def em_n (x : Bool) : Bool := Bool.rec (motive := fun _ => Bool) true false x
/-! bytes: 0 first, 1 waiting, 2.. up, 7.. group, 12.. role, 17.. term, 22.. votedFor + 1, 27.. votes, 32.. entries, 37.. counted, 42.. version, 47.. next, 72.. match, 97.. terms of entries, 177.. commands of entries, 257.. messages (10 each) -/
def em_fi (S : Nat) : Nat := em_g S 0
def em_wa (S : Nat) : Nat := em_g S 1
def em_up (S n : Nat) : Nat := em_g S (Nat.add 2 n)
def em_gr (S n : Nat) : Nat := em_g S (Nat.add 7 n)
def em_ro (S n : Nat) : Nat := em_g S (Nat.add 12 n)
def em_te (S n : Nat) : Nat := em_g S (Nat.add 17 n)
def em_vf (S n : Nat) : Nat := em_g S (Nat.add 22 n)
def em_vo (S n : Nat) : Nat := em_g S (Nat.add 27 n)
def em_en (S n : Nat) : Nat := em_g S (Nat.add 32 n)
def em_co (S n : Nat) : Nat := em_g S (Nat.add 37 n)
def em_ve (S n : Nat) : Nat := em_g S (Nat.add 42 n)
def em_nx (S k : Nat) : Nat := em_g S (Nat.add 47 k)
def em_ma (S k : Nat) : Nat := em_g S (Nat.add 72 k)
/-- the term of entry i (from 1; 0: none) -/
noncomputable def em_ta (S n i : Nat) : Nat := em_c (Nat.beq i 0) 0 (em_g S (Nat.add 96 (Nat.add (Nat.mul 16 n) i)))
noncomputable def em_jo (S a b : Nat) : Bool := em_a (Nat.ble 1 (em_up S a)) (em_a (Nat.ble 1 (em_up S b)) (Nat.beq (em_gr S a) (em_gr S b)))
/-- more than half of five bits -/
def em_mj (m : Nat) : Bool := Nat.beq (Nat.land (Nat.shiftRight 4276676736 m) 1) 1
/-- message p as a number of ten bytes -/
def em_rb (S p : Nat) : Nat := Nat.land (Nat.shiftRight S (Nat.add 2056 (Nat.mul 80 p))) 1208925819614629174706175
def em_wb (S p M : Nat) : Nat := Nat.xor S (Nat.shiftLeft (Nat.xor (em_rb S p) M) (Nat.add 2056 (Nat.mul 80 p)))
def em_m7 (so fr to te x y z : Nat) : Nat := Nat.add so (Nat.mul 256 (Nat.add fr (Nat.mul 256 (Nat.add to (Nat.mul 256 (Nat.add te (Nat.mul 256 (Nat.add x (Nat.mul 256 (Nat.add y (Nat.mul 256 z)))))))))))
def em_sl (S : Nat) : Nat := Nat.mod (Nat.add (em_fi S) (em_wa S)) 64
noncomputable def em_po (S so fr to x y z : Nat) : Nat :=
  em_c (Nat.ble 64 (em_wa S)) 0 (em_s (em_wb S (em_sl S) (em_m7 so fr to (em_te S fr) x y z)) 1 (Nat.succ (em_wa S)))
/-! one entry is carried out; all up to an index -/
noncomputable def em_cy (S n j : Nat) : Nat :=
  em_f (em_g S (Nat.add 176 (Nat.add (Nat.mul 16 n) j))) (fun c =>
    em_c (Nat.beq c 0) (em_s S (Nat.add 37 n) j)
      (em_c (em_a (Nat.beq c (Nat.succ (em_ve S n))) (Nat.ble c 4)) (em_s (em_s S (Nat.add 37 n) j) (Nat.add 42 n) c) 0))
noncomputable def em_ct (n i : Nat) (fuel : Nat) : Nat → Nat :=
  Nat.rec (motive := fun _ => Nat → Nat) (fun _ => 0) (fun _ ih S =>
    em_c (em_a (Nat.ble (Nat.succ (em_co S n)) i) (Nat.ble (Nat.succ (em_co S n)) (em_en S n)))
      (em_b (em_cy S n (Nat.succ (em_co S n))) ih) S) fuel
/-! what most members have counts -/
noncomputable def em_hv (S n j : Nat) : Nat :=
  Nat.add (em_c (Nat.ble j (em_ma S (Nat.add (Nat.mul 5 n) 0))) 1 0)
  (Nat.add (em_c (Nat.ble j (em_ma S (Nat.add (Nat.mul 5 n) 1))) 2 0)
  (Nat.add (em_c (Nat.ble j (em_ma S (Nat.add (Nat.mul 5 n) 2))) 4 0)
  (Nat.add (em_c (Nat.ble j (em_ma S (Nat.add (Nat.mul 5 n) 3))) 8 0)
  (em_c (Nat.ble j (em_ma S (Nat.add (Nat.mul 5 n) 4))) 16 0))))
noncomputable def em_cs (S n j : Nat) : Nat :=
  em_c (em_a (Nat.beq (em_ta S n j) (em_te S n)) (em_mj (em_hv S n j))) (em_ct n j 20 S) S
noncomputable def em_cl (n : Nat) (i : Nat) : Nat → Nat :=
  Nat.rec (motive := fun _ => Nat → Nat) (fun S => S) (fun j ih S =>
    em_c (Nat.ble (Nat.succ j) (em_co S n)) S (em_b (em_cs S n (Nat.succ j)) ih)) i
noncomputable def em_cm (S n : Nat) : Nat := em_cl n (em_en S n) S
/-! sending -/
noncomputable def em_se (S n o : Nat) : Nat :=
  em_b (em_nx S (Nat.add (Nat.mul 5 n) o)) (fun i =>
    em_c (Nat.ble i (Nat.succ (em_en S n)))
      (em_b (em_po S 5 n o (Nat.pred i) (em_ta S n (Nat.pred i)) (em_co S n)) (fun S1 =>
        em_c (Nat.ble i (em_en S n))
          (em_s (em_s (em_s S1 (Nat.add 264 (Nat.mul 10 (em_sl S))) 1)
            (Nat.add 265 (Nat.mul 10 (em_sl S))) (em_g S (Nat.add 96 (Nat.add (Nat.mul 16 n) i))))
            (Nat.add 266 (Nat.mul 10 (em_sl S))) (em_g S (Nat.add 176 (Nat.add (Nat.mul 16 n) i))))
          S1)) 0)
noncomputable def em_s1 (S n o : Nat) : Nat := em_c (Nat.beq o n) S (em_se S n o)
noncomputable def em_sa (S n : Nat) : Nat :=
  em_b (em_s1 S n 0) (fun S => em_b (em_s1 S n 1) (fun S => em_b (em_s1 S n 2) (fun S => em_b (em_s1 S n 3) (fun S => em_s1 S n 4))))
/-! receiving -/
noncomputable def em_et (S n t : Nat) : Nat :=
  em_c (Nat.ble t (em_te S n)) S (em_s (em_s (em_s S (Nat.add 17 n) t) (Nat.add 22 n) 0) (Nat.add 12 n) 0)
noncomputable def em_ut (S M n : Nat) : Bool :=
  em_o (Nat.ble (Nat.succ (em_ta S n (em_en S n))) (em_g M 5)) (em_a (Nat.beq (em_g M 5) (em_ta S n (em_en S n))) (Nat.ble (em_en S n) (em_g M 4)))
noncomputable def em_vt (S fr to : Nat) : Nat := em_s S (Nat.add 27 to) (Nat.lor (em_vo S to) (Nat.shiftLeft 1 fr))
noncomputable def em_el (S M fr to : Nat) : Nat :=
  em_b (em_et S to (em_g M 3)) (fun S1 =>
    em_c (em_a (Nat.beq (em_g M 3) (em_te S1 to)) (em_a (em_o (Nat.beq (em_vf S1 to) 0) (Nat.beq (em_vf S1 to) (Nat.succ fr))) (em_ut S1 M to)))
      (em_b (em_s S1 (Nat.add 22 to) (Nat.succ fr)) (fun S2 => em_po S2 4 to fr 0 0 0)) S1)
noncomputable def em_tk (S M n i : Nat) : Nat :=
  em_c (em_a (Nat.ble i (em_en S n)) (Nat.beq (em_ta S n i) (em_g M 8))) S
    (em_c (Nat.ble 17 i) 0
      (em_s (em_s (em_s (em_s S (Nat.add 32 n) (Nat.pred i)) (Nat.add 96 (Nat.add (Nat.mul 16 n) i)) (em_g M 8)) (Nat.add 176 (Nat.add (Nat.mul 16 n) i)) (em_g M 9)) (Nat.add 32 n) i))
noncomputable def em_ap (S M fr to has : Nat) : Nat :=
  em_b (em_ct to (em_c (Nat.ble has (em_g M 6)) has (em_g M 6)) 20 S) (fun S1 => em_po S1 6 to fr has 0 0)
noncomputable def em_ax (S M fr to : Nat) : Nat :=
  em_c (em_o (Nat.ble (Nat.succ (em_en S to)) (em_g M 4)) (em_n (Nat.beq (em_ta S to (em_g M 4)) (em_g M 5))))
    (em_c (Nat.beq (em_g M 4) 0) 0
      (em_po S 7 to fr (em_c (Nat.ble (em_en S to) (Nat.pred (em_g M 4))) (em_en S to) (Nat.pred (em_g M 4))) 0 0))
    (em_c (Nat.beq (em_g M 7) 1)
      (em_b (em_tk S M to (Nat.succ (em_g M 4))) (fun S2 => em_ap S2 M fr to (Nat.succ (em_g M 4))))
      (em_ap S M fr to (em_g M 4)))
noncomputable def em_ae (S M fr to : Nat) : Nat :=
  em_c (Nat.ble (em_te S to) (em_g M 3))
    (em_b (em_s (em_et S to (em_g M 3)) (Nat.add 12 to) 0) (fun S1 => em_ax S1 M fr to)) S
noncomputable def em_h2 (S fr to at' : Nat) : Nat :=
  em_b (em_cm S to) (fun S2 => em_c (Nat.ble (em_nx S2 at') (em_en S2 to)) (em_se S2 to fr) S2)
noncomputable def em_he (S M so fr to : Nat) : Nat :=
  em_c (Nat.beq (em_ro S to) 1)
    (em_f (Nat.add (Nat.mul 5 to) fr) (fun at' =>
      em_c (em_o (Nat.ble 255 (em_g M 4)) (Nat.ble 255 (em_ma S at'))) 0 (em_c (Nat.beq so 7)
        (em_b (em_s S (Nat.add 47 at') (Nat.succ (em_g M 4))) (fun S1 => em_se S1 to fr))
        (em_c (Nat.ble (em_g M 4) (em_ma S at'))
          (em_b (em_s S (Nat.add 47 at') (Nat.succ (em_ma S at'))) (fun S1 => em_h2 S1 fr to at'))
          (em_b (em_s (em_s S (Nat.add 72 at') (em_g M 4)) (Nat.add 47 at') (Nat.succ (em_g M 4))) (fun S1 => em_h2 S1 fr to at'))))))
    S
noncomputable def em_dv (S M so fr to : Nat) : Nat :=
  em_c (Nat.beq so 1) (em_c (em_ut S M to) (em_po S 2 to fr 0 0 0) S)
  (em_c (Nat.beq so 2) (em_vt S fr to)
  (em_c (Nat.beq so 4) (em_vt S fr to)
  (em_c (Nat.beq so 3) (em_el S M fr to)
  (em_c (Nat.beq so 5) (em_ae S M fr to)
  (em_c (Nat.beq so 8) 0 (em_he S M so fr to))))))
noncomputable def em_dl (S M : Nat) : Nat :=
  em_f (em_g M 1) (fun fr => em_f (em_g M 2) (fun to => em_f (em_g M 0) (fun so =>
    em_c (em_jo S fr to) (em_dv S M so fr to) S)))
noncomputable def em_pp (S : Nat) : Nat := em_s (em_s S 0 (Nat.mod (Nat.succ (em_fi S)) 64)) 1 (Nat.pred (em_wa S))
noncomputable def em_da (fuel : Nat) : Nat → Nat :=
  Nat.rec (motive := fun _ => Nat → Nat) (fun _ => 0) (fun _ ih S =>
    em_c (Nat.beq (em_wa S) 0) S
      (em_b (em_rb S (em_fi S)) (fun M => em_b (em_pp S) (fun S1 => em_b (em_dl S1 M) ih)))) fuel
noncomputable def em_sp (S n : Nat) : Nat :=
  em_b (em_cm S n) (fun S1 => em_b (em_sa S1 n) (fun S2 => em_da 60 S2))
/-! elections -/
noncomputable def em_re (S n : Nat) : Nat :=
  Nat.add (em_c (em_jo S n 0) 1 0) (Nat.add (em_c (em_jo S n 1) 2 0) (Nat.add (em_c (em_jo S n 2) 4 0) (Nat.add (em_c (em_jo S n 3) 8 0) (em_c (em_jo S n 4) 16 0))))
noncomputable def em_g1 (S n : Nat) : Nat :=
  em_c (em_a (Nat.ble 1 (em_up S n)) (em_mj (em_re S n))) S (em_s S (Nat.add 12 n) 0)
noncomputable def em_gu (S : Nat) : Nat :=
  em_b (em_g1 S 0) (fun S => em_b (em_g1 S 1) (fun S => em_b (em_g1 S 2) (fun S => em_b (em_g1 S 3) (fun S => em_g1 S 4))))
/-- the leader; 5: none -/
noncomputable def em_le (S : Nat) : Nat :=
  em_c (Nat.beq (em_ro S 0) 1) 0 (em_c (Nat.beq (em_ro S 1) 1) 1 (em_c (Nat.beq (em_ro S 2) 1) 2 (em_c (Nat.beq (em_ro S 3) 1) 3 (em_c (Nat.beq (em_ro S 4) 1) 4 5))))
noncomputable def em_q1 (S n so o : Nat) : Nat :=
  em_c (Nat.beq o n) S (em_po S so n o (em_en S n) (em_ta S n (em_en S n)) 0)
noncomputable def em_as (S n so : Nat) : Nat :=
  em_b (em_s S (Nat.add 27 n) (Nat.shiftLeft 1 n)) (fun S => em_b (em_q1 S n so 0) (fun S => em_b (em_q1 S n so 1) (fun S => em_b (em_q1 S n so 2) (fun S => em_b (em_q1 S n so 3) (fun S => em_b (em_q1 S n so 4) (fun S => em_da 60 S))))))
/-- an entry behind the last: its command c -/
noncomputable def em_wr (S n c : Nat) : Nat :=
  em_c (Nat.ble 16 (em_en S n)) 0
    (em_s (em_s (em_s (em_s S (Nat.add 97 (Nat.add (Nat.mul 16 n) (em_en S n))) (em_te S n)) (Nat.add 177 (Nat.add (Nat.mul 16 n) (em_en S n))) c)
      (Nat.add 72 (Nat.mul 6 n)) (Nat.succ (em_en S n))) (Nat.add 32 n) (Nat.succ (em_en S n)))
noncomputable def em_l1 (S n o : Nat) : Nat :=
  em_s (em_s S (Nat.add 47 (Nat.add (Nat.mul 5 n) o)) (Nat.succ (em_en S n))) (Nat.add 72 (Nat.add (Nat.mul 5 n) o)) 0
noncomputable def em_ld (S n : Nat) : Nat :=
  em_b (em_s S (Nat.add 12 n) 1) (fun S => em_b (em_l1 S n 0) (fun S => em_b (em_l1 S n 1) (fun S => em_b (em_l1 S n 2) (fun S => em_b (em_l1 S n 3) (fun S => em_b (em_l1 S n 4) (fun S => em_wr S n 0))))))
noncomputable def em_st (S n : Nat) (kt kf : Nat → Nat) : Nat :=
  em_c (Nat.ble 1 (em_up S n))
    (em_b (em_as S n 1) (fun S1 =>
      em_c (em_mj (Nat.land (em_vo S1 n) 31))
        (em_c (Nat.ble 255 (em_te S1 n)) 0
        (em_b (em_s (em_s S1 (Nat.add 17 n) (Nat.succ (em_te S1 n))) (Nat.add 22 n) (Nat.succ n)) (fun S2 =>
          em_b (em_as S2 n 3) (fun S3 =>
            em_c (em_mj (Nat.land (em_vo S3 n) 31)) (em_b (em_ld S3 n) kt) (kf S3)))))
        (kf S1)))
    (kf S)
noncomputable def em_h1 (S n : Nat) (late : Bool) (k : Nat → Nat) : Nat :=
  em_c (Nat.ble (Nat.succ (em_co S n)) (em_en S n)) (Bool.rec (motive := fun _ => Nat) (k S) (em_st S n (fun S => S) k) late)
    (Bool.rec (motive := fun _ => Nat) (em_st S n (fun S => S) k) (k S) late)
noncomputable def em_ho (S : Nat) : Nat :=
  em_h1 S 0 false (fun S => em_h1 S 1 false (fun S => em_h1 S 2 false (fun S => em_h1 S 3 false (fun S => em_h1 S 4 false (fun S =>
  em_h1 S 0 true (fun S => em_h1 S 1 true (fun S => em_h1 S 2 true (fun S => em_h1 S 3 true (fun S => em_h1 S 4 true (fun S => S))))))))))
noncomputable def em_x2 (S : Nat) : Nat :=
  em_f (em_le S) (fun l => em_c (Nat.beq l 5) S (em_b (em_sp S l) (fun S1 => em_b (em_sp S1 l) (fun S2 => em_gu S2))))
noncomputable def em_x1 (S : Nat) : Nat :=
  em_c (Nat.beq (em_le S) 5) (em_b (em_ho S) (fun S1 => em_x2 S1)) (em_x2 S)
noncomputable def em_sx (S : Nat) : Nat :=
  em_b (em_gu S) (fun S => em_b (em_x1 S) (fun S => em_b (em_x1 S) (fun S => em_x1 S)))
/-! the calls of the law -/
noncomputable def em_mv (S n g : Nat) : Nat := em_b (em_s S (Nat.add 7 n) g) (fun S => em_sx S)
noncomputable def em_sp0 (S n : Nat) : Nat := em_b (em_s (em_s S (Nat.add 2 n) 0) (Nat.add 12 n) 0) (fun S => em_sx S)
noncomputable def em_sta (S n : Nat) : Nat := em_b (em_s S (Nat.add 2 n) 1) (fun S => em_sx S)
noncomputable def em_su (S c : Nat) : Nat :=
  em_f (em_le S) (fun l => em_c (em_a (Nat.ble (Nat.succ l) 5) (Nat.beq (Nat.succ (em_ve S l)) c))
    (em_b (em_wr S l c) (fun S1 => em_b (em_sp S1 l) (fun S2 => em_sx S2))) 0)
/-- all five up -/
def em_s0 : Nat := em_s (em_s (em_s (em_s (em_s 0 2 1) 3 1) 4 1) 5 1) 6 1
end
section
/-! ===== the law over pictures, and its run ===== -/
noncomputable def em_all (f : Nat → Bool) (m : Nat) : Bool := Nat.rec (motive := fun _ => Bool) true (fun j ih => em_a (f j) ih) m
noncomputable def em_fe (S n j : Nat) : Bool := em_a (Nat.ble (em_ta S n j) (em_ta S n (Nat.succ j))) (Nat.ble (em_ta S n (Nat.succ j)) (em_te S n))
noncomputable def em_fn (S n : Nat) : Bool := em_a (Nat.ble (em_co S n) (em_en S n)) (em_all (fun j => em_fe S n j) (em_en S n))
noncomputable def em_fp (S n o j : Nat) : Bool :=
  em_a (em_o (Nat.beq (em_ta S n (Nat.succ j)) (em_ta S o (Nat.succ j))) (em_n (em_a (Nat.ble (Nat.succ j) (em_co S n)) (Nat.ble (Nat.succ j) (em_co S o)))))
    (em_o (em_n (Nat.beq (em_ta S n (Nat.succ j)) (em_ta S o (Nat.succ j))))
      (Nat.beq (em_g S (Nat.add 177 (Nat.add (Nat.mul 16 n) j))) (em_g S (Nat.add 177 (Nat.add (Nat.mul 16 o) j)))))
noncomputable def em_fc (S n o : Nat) : Bool :=
  em_a (em_all (fun j => em_fp S n o j) (em_c (Nat.ble (em_en S o) (em_en S n)) (em_en S o) (em_en S n)))
    (em_o (em_n (Nat.beq (em_co S n) (em_co S o))) (Nat.beq (em_ve S n) (em_ve S o)))
noncomputable def em_ln (S : Nat) (m : Nat) : Nat := Nat.rec (motive := fun _ => Nat) 0 (fun j ih => Nat.add ih (em_c (Nat.beq (em_ro S j) 1) 1 0)) m
noncomputable def em_fa (S : Nat) : Bool :=
  em_a (em_all (fun n => em_fn S n) 5) (em_a (Nat.ble (em_ln S 5) 1) (em_a (Nat.beq (em_wa S) 0) (em_all (fun k => em_fc S (Nat.div k 5) (Nat.mod k 5)) 25)))
/-- a check -/
noncomputable def em_k (b : Bool) (x : Nat) : Nat := em_c b x 0
noncomputable def em_r3 (S a th la g : Nat) : Nat :=
  em_k (Nat.beq (em_gr S a) 0) (em_b (em_mv S a g) (fun S1 =>
  em_k (em_a (Nat.ble (Nat.succ (em_le S1)) 5) (em_n (Nat.beq (em_le S1) a)))
  (em_k (Nat.beq (em_gr S1 a) g) (em_b (em_mv S1 a 0) (fun S2 =>
  em_k (em_a (Nat.beq (em_ve S2 a) (em_ve S2 th)) (em_a (Nat.beq (em_ve S2 la) 4) (em_fa S2))) 1)))))
/-- behind the move of a back -/
noncomputable def em_r2b (S2 a b e th ot la : Nat) : Nat :=
  em_k (em_a (Nat.beq (em_ve S2 a) 2) (Nat.beq (em_ve S2 b) 1))
  (em_b (em_su S2 3) (fun S3 =>
  em_k (em_a (Nat.ble (Nat.succ (em_le S3)) 5) (em_a (Nat.beq (em_ve S3 (em_le S3)) 3) (em_a (Nat.beq (em_ve S3 ot) 2) (Nat.beq (em_ve S3 a) 3))))
  (em_b (em_su S3 4) (fun S4 =>
  em_k (em_a (Nat.ble (Nat.succ (em_le S4)) 5) (em_a (Nat.beq (em_ve S4 (em_le S4)) 4) (Nat.beq (em_ve S4 a) 4)))
  (em_k (Nat.beq (em_up S4 th) 1) (em_b (em_sp0 S4 th) (fun S5 =>
  em_k (Nat.beq (em_up S5 la) 1) (em_b (em_sp0 S5 la) (fun S6 =>
  em_k (Nat.beq (em_le S6) 5)
  (em_k (Nat.beq (em_up S6 ot) 0) (em_b (em_sta S6 ot) (fun S7 =>
  em_k (Nat.beq (em_gr S7 b) (Nat.succ e)) (em_b (em_mv S7 b 0) (fun S8 =>
  em_k (em_a (Nat.beq (em_le S8) a) (em_a (Nat.beq (em_ve S8 b) 4) (em_a (Nat.beq (em_ve S8 b) (em_ve S8 ot)) (Nat.beq (em_ve S8 a) (em_ve S8 b)))))
  (em_k (Nat.beq (em_up S8 th) 0) (em_b (em_sta S8 th) (fun S9 =>
  em_k (Nat.beq (em_up S9 la) 0) (em_b (em_sta S9 la) (fun S10 =>
  em_b (em_r3 S10 a th la 1) (fun _ => em_r3 S10 a th la 2))))))))))))))))))))
noncomputable def em_r2 (S a b e th ot la : Nat) : Nat :=
  em_k (Nat.beq (em_up S ot) 1) (em_b (em_sp0 S ot) (fun S1 =>
  em_k (em_a (Nat.beq (em_le S1) 5) (Nat.beq (em_ve S1 th) 2))
  (em_k (Nat.beq (em_gr S1 a) 1) (em_b (em_mv S1 a 0) (fun S2 =>
  em_k (Nat.beq (em_le S2) (em_c (Nat.ble la th) la th)) (em_r2b S2 a b e th ot la))))))
noncomputable def em_ot (a b t : Nat) : Nat :=
  Nat.rec (motive := fun _ => Nat) 0 (fun i ih => em_c (em_o (Nat.beq i a) (em_o (Nat.beq i b) (Nat.beq i t))) ih i) 5
noncomputable def em_la (a b t : Nat) : Nat := Nat.sub (Nat.sub (Nat.sub (Nat.sub 10 a) b) t) (em_ot a b t)
/-- behind the two moves -/
noncomputable def em_r1 (S a b e th : Nat) : Nat :=
  em_k (em_a (Nat.ble (Nat.succ (em_le S)) 5) (em_a (Nat.ble (Nat.succ th) 5) (em_a (em_n (Nat.beq th a)) (em_n (Nat.beq th b)))))
  (em_b (em_su S 2) (fun S1 =>
  em_k (em_a (Nat.ble (Nat.succ (em_le S1)) 5) (em_a (Nat.beq (em_ve S1 (em_le S1)) 2) (em_a (Nat.beq (em_ve S1 a) 1) (em_a (Nat.beq (em_ve S1 b) 1) (Nat.beq (em_ve S1 th) 2)))))
  (em_f (em_ot a b th) (fun ot => em_f (em_la a b th) (fun la => em_r2 S1 a b e th ot la)))))
noncomputable def em_r0 (S a b e : Nat) : Nat :=
  em_k (Nat.beq (em_gr S b) 0) (em_b (em_mv S b (Nat.succ e)) (fun S1 =>
    em_f (em_c (em_o (Nat.beq a 0) (Nat.beq b 0)) (em_le S1) 0) (fun th => em_r1 S1 a b e th)))
noncomputable def em_t1 : Nat := em_b (em_sx em_s0) (fun S => em_su S 1)
noncomputable def em_cf (S a d : Nat) : Nat := em_f (Nat.mod (Nat.add (Nat.succ a) d) 5) (fun b => em_b (em_r0 S a b 0) (fun _ => em_r0 S a b 1))
noncomputable def em_run (a : Nat) : Nat :=
  em_b em_t1 (fun S => em_k (Nat.beq (em_gr S a) 0) (em_b (em_mv S a 1) (fun S1 =>
    em_b (em_cf S1 a 0) (fun _ => em_b (em_cf S1 a 1) (fun _ => em_b (em_cf S1 a 2) (fun _ => em_cf S1 a 3))))))
theorem em_run0 : em_run 0 = 1 := by decide +kernel
theorem em_run1 : em_run 1 = 1 := by decide +kernel
theorem em_run2 : em_run 2 = 1 := by decide +kernel
theorem em_run3 : em_run 3 = 1 := by decide +kernel
theorem em_run4 : em_run 4 = 1 := by decide +kernel
end
section
/-! ===== bytes of a number ===== -/
theorem by_255 (i : Nat) : Nat.testBit 255 i = decide (i < 8) := Nat.testBit_two_pow_sub_one 8 i
theorem by_80 (i : Nat) : Nat.testBit 1208925819614629174706175 i = decide (i < 80) := Nat.testBit_two_pow_sub_one 80 i
theorem by_gE (S k : Nat) : em_g S k = (S >>> (8 * k)) &&& 255 := rfl
theorem by_sE (S k v : Nat) : em_s S k v = S ^^^ ((em_g S k ^^^ v) <<< (8 * k)) := rfl
theorem by_rE (S p : Nat) : em_rb S p = (S >>> (2056 + 80 * p)) &&& 1208925819614629174706175 := rfl
theorem by_wE (S p M : Nat) : em_wb S p M = S ^^^ ((em_rb S p ^^^ M) <<< (2056 + 80 * p)) := rfl
theorem by_g (S k i : Nat) : (em_g S k).testBit i = (decide (i < 8) && S.testBit (8 * k + i)) := by
  rw [by_gE, Nat.testBit_and, Nat.testBit_shiftRight, by_255, Bool.and_comm]
theorem by_r (S p i : Nat) : (em_rb S p).testBit i = (decide (i < 80) && S.testBit (2056 + 80 * p + i)) := by
  rw [by_rE, Nat.testBit_and, Nat.testBit_shiftRight, by_80, Bool.and_comm]
theorem by_lt (S k : Nat) : em_g S k < 256 := by
  rw [by_gE]
  exact Nat.and_lt_two_pow (n := 8) _ (by decide)
theorem by_big {v : Nat} (hv : v < 256) {i : Nat} (hi : 8 ≤ i) : v.testBit i = false :=
  Nat.testBit_lt_two_pow (Nat.lt_of_lt_of_le hv (by rw [show (256 : Nat) = 2 ^ 8 from rfl]; exact Nat.pow_le_pow_right (by decide) hi))
theorem by_big80 {v : Nat} (hv : v < 1208925819614629174706176) {i : Nat} (hi : 80 ≤ i) : v.testBit i = false :=
  Nat.testBit_lt_two_pow (Nat.lt_of_lt_of_le hv (by rw [show (1208925819614629174706176 : Nat) = 2 ^ 80 from rfl]; exact Nat.pow_le_pow_right (by decide) hi))
theorem by_s (S k v i : Nat) (hv : v < 256) : (em_s S k v).testBit i = if 8 * k ≤ i ∧ i < 8 * k + 8 then v.testBit (i - 8 * k) else S.testBit i := by
  rw [by_sE, Nat.testBit_xor, Nat.testBit_shiftLeft, Nat.testBit_xor, by_g]
  by_cases h1 : 8 * k ≤ i
  · by_cases h2 : i < 8 * k + 8
    · rw [if_pos ⟨h1, h2⟩, show 8 * k + (i - 8 * k) = i by omega]
      have e1 : decide (i ≥ 8 * k) = true := decide_eq_true h1
      have e2 : decide (i - 8 * k < 8) = true := decide_eq_true (by omega)
      rw [e1, e2]
      cases S.testBit i <;> cases v.testBit (i - 8 * k) <;> rfl
    · rw [if_neg (fun h => h2 h.2), by_big hv (by omega)]
      have e2 : decide (i - 8 * k < 8) = false := decide_eq_false (by omega)
      rw [e2]
      cases S.testBit i <;> cases decide (i ≥ 8 * k) <;> rfl
  · rw [if_neg (fun h => h1 h.1)]
    have e1 : decide (i ≥ 8 * k) = false := decide_eq_false h1
    rw [e1]
    cases S.testBit i <;> rfl
theorem by_w (S p M i : Nat) (hv : M < 1208925819614629174706176) : (em_wb S p M).testBit i = if 2056 + 80 * p ≤ i ∧ i < 2056 + 80 * p + 80 then M.testBit (i - (2056 + 80 * p)) else S.testBit i := by
  rw [by_wE, Nat.testBit_xor, Nat.testBit_shiftLeft, Nat.testBit_xor, by_r]
  by_cases h1 : 2056 + 80 * p ≤ i
  · by_cases h2 : i < 2056 + 80 * p + 80
    · rw [if_pos ⟨h1, h2⟩, show 2056 + 80 * p + (i - (2056 + 80 * p)) = i by omega]
      have e1 : decide (i ≥ 2056 + 80 * p) = true := decide_eq_true h1
      have e2 : decide (i - (2056 + 80 * p) < 80) = true := decide_eq_true (by omega)
      rw [e1, e2]
      cases S.testBit i <;> cases M.testBit (i - (2056 + 80 * p)) <;> rfl
    · rw [if_neg (fun h => h2 h.2), by_big80 hv (by omega)]
      have e2 : decide (i - (2056 + 80 * p) < 80) = false := decide_eq_false (by omega)
      rw [e2]
      cases S.testBit i <;> cases decide (i ≥ 2056 + 80 * p) <;> rfl
  · rw [if_neg (fun h => h1 h.1)]
    have e1 : decide (i ≥ 2056 + 80 * p) = false := decide_eq_false h1
    rw [e1]
    cases S.testBit i <;> rfl
theorem by_eq {S k v : Nat} (hv : v < 256) : em_g (em_s S k v) k = v := by
  apply Nat.eq_of_testBit_eq
  intro i
  rw [by_g, by_s _ _ _ _ hv]
  by_cases h : i < 8
  · rw [if_pos ⟨by omega, by omega⟩, show 8 * k + i - 8 * k = i by omega, decide_eq_true h, Bool.true_and]
  · rw [decide_eq_false h, Bool.false_and, by_big hv (by omega)]
theorem by_ne {S k v j : Nat} (hv : v < 256) (h : j ≠ k) : em_g (em_s S k v) j = em_g S j := by
  apply Nat.eq_of_testBit_eq
  intro i
  rw [by_g, by_g, by_s _ _ _ _ hv]
  by_cases h8 : i < 8
  · rw [if_neg (by omega)]
  · rw [decide_eq_false h8, Bool.false_and, Bool.false_and]
theorem by_gr (S p : Nat) {c : Nat} (hc : c < 10) : em_g (em_rb S p) c = em_g S (257 + 10 * p + c) := by
  apply Nat.eq_of_testBit_eq
  intro i
  rw [by_g, by_g, by_r]
  by_cases h8 : i < 8
  · rw [decide_eq_true (show 8 * c + i < 80 by omega), Bool.true_and, show 2056 + 80 * p + (8 * c + i) = 8 * (257 + 10 * p + c) + i by omega]
  · rw [decide_eq_false h8, Bool.false_and, Bool.false_and]
theorem by_gw (S p M : Nat) (hv : M < 1208925819614629174706176) {c : Nat} (hc : c < 10) : em_g (em_wb S p M) (257 + 10 * p + c) = em_g M c := by
  apply Nat.eq_of_testBit_eq
  intro i
  rw [by_g, by_g, by_w _ _ _ _ hv]
  by_cases h8 : i < 8
  · rw [if_pos ⟨by omega, by omega⟩, show 8 * (257 + 10 * p + c) + i - (2056 + 80 * p) = 8 * c + i by omega]
  · rw [decide_eq_false h8, Bool.false_and, Bool.false_and]
theorem by_gwn (S p M : Nat) (hv : M < 1208925819614629174706176) {j : Nat} (hj : j < 257 + 10 * p ∨ 267 + 10 * p ≤ j) : em_g (em_wb S p M) j = em_g S j := by
  apply Nat.eq_of_testBit_eq
  intro i
  rw [by_g, by_g, by_w _ _ _ _ hv]
  by_cases h8 : i < 8
  · rw [if_neg (by omega)]
  · rw [decide_eq_false h8, Bool.false_and, Bool.false_and]
theorem by_div (S k : Nat) : em_g S k = S / 2 ^ (8 * k) % 256 := by
  rw [by_gE, Nat.shiftRight_eq_div_pow]
  exact Nat.and_two_pow_sub_one_eq_mod _ 8
theorem by_m7E (so fr to te x y z : Nat) : em_m7 so fr to te x y z = so + 256 * (fr + 256 * (to + 256 * (te + 256 * (x + 256 * (y + 256 * z))))) := rfl
theorem by_m7 {so fr to te x y z : Nat} (h0 : so < 256) (h1 : fr < 256) (h2 : to < 256) (h3 : te < 256) (h4 : x < 256) (h5 : y < 256) (h6 : z < 256) :
    em_m7 so fr to te x y z < 1208925819614629174706176 ∧ em_g (em_m7 so fr to te x y z) 0 = so ∧ em_g (em_m7 so fr to te x y z) 1 = fr ∧ em_g (em_m7 so fr to te x y z) 2 = to ∧ em_g (em_m7 so fr to te x y z) 3 = te ∧
    em_g (em_m7 so fr to te x y z) 4 = x ∧ em_g (em_m7 so fr to te x y z) 5 = y ∧ em_g (em_m7 so fr to te x y z) 6 = z ∧ em_g (em_m7 so fr to te x y z) 7 = 0 := by
  refine ⟨?_, ?_, ?_, ?_, ?_, ?_, ?_, ?_, ?_⟩
  · rw [by_m7E]; omega
  all_goals
    rw [by_div, by_m7E]
    omega
/-! the machine's joints -/
theorem by_b {S : Nat} {f : Nat → Nat} (h : em_b S f ≠ 0) : S ≠ 0 ∧ f S ≠ 0 ∧ em_b S f = f S := by
  cases S with
  | zero => exact absurd rfl h
  | succ n => exact ⟨Nat.succ_ne_zero n, h, rfl⟩
theorem by_f (v : Nat) (f : Nat → Nat) : em_f v f = f v := by
  cases v <;> rfl
theorem by_ct {b : Bool} {x y : Nat} (h : b = true) : em_c b x y = x := by rw [h]; rfl
theorem by_cf {b : Bool} {x y : Nat} (h : b = false) : em_c b x y = y := by rw [h]; rfl
theorem by_a {x y : Bool} : em_a x y = true ↔ x = true ∧ y = true := by cases x <;> cases y <;> decide
theorem by_o {x y : Bool} : em_o x y = true ↔ x = true ∨ y = true := by cases x <;> cases y <;> decide
theorem by_n {x : Bool} : em_n x = true ↔ x = false := by cases x <;> decide
theorem by_af {x y : Bool} : em_a x y = false ↔ x = false ∨ y = false := by cases x <;> cases y <;> decide
theorem by_of {x y : Bool} : em_o x y = false ↔ x = false ∧ y = false := by cases x <;> cases y <;> decide
theorem by_nf {x : Bool} : em_n x = false ↔ x = true := by cases x <;> decide
theorem by_le {a b : Nat} : Nat.ble a b = true ↔ a ≤ b := ⟨Nat.le_of_ble_eq_true, Nat.ble_eq_true_of_le⟩
theorem by_lef {a b : Nat} : Nat.ble a b = false ↔ b < a := by
  cases h : Nat.ble a b with
  | true => exact ⟨fun z => Bool.noConfusion z, fun z => absurd (by_le.mp h) (by omega)⟩
  | false => exact ⟨fun _ => Nat.lt_of_not_le (fun z => by rw [by_le.mpr z] at h; exact Bool.noConfusion h), fun _ => rfl⟩
theorem by_be {a b : Nat} : Nat.beq a b = true ↔ a = b := ⟨Nat.eq_of_beq_eq_true, fun h => by rw [h]; exact Nat.beq_refl b⟩
theorem by_bef {a b : Nat} : Nat.beq a b = false ↔ a ≠ b := by
  cases h : Nat.beq a b with
  | true => exact ⟨fun z => Bool.noConfusion z, fun z => absurd (by_be.mp h) z⟩
  | false => exact ⟨fun _ z => (by rw [by_be.mpr z] at h; exact Bool.noConfusion h), fun _ => rfl⟩
theorem by_k {b : Bool} {x : Nat} (h : em_k b x ≠ 0) : b = true ∧ x ≠ 0 := by
  cases b with
  | true => exact ⟨rfl, h⟩
  | false => exact absurd rfl h
end
section
/-! ===== the relation between a number S and a state; P: key, session, x, y; M: the message that was taken last ===== -/
abbrev ra_P : Type := Nat × Nat × Int32 × Int32
def ra_val (P : ra_P) (v : Nat) : Int32 := if v = 0 then 0 else if v = 1 then P.2.2.2 else if v = 2 then P.2.2.2 + P.2.2.1 else 77
def ra_ans (P : ra_P) (v : Nat) : Int32 := if v = 0 then 0 else ra_val P (v - 1)
/-- place c of an applied state of version v -/
def ra_v (P : ra_P) (v c : Nat) : Int32 := if c = P.1 then ra_val P v else if c = 6 + P.2.1 then nI v else if c = 10 + P.2.1 then ra_ans P v else if c = 14 then 31 else 0
def ra_kind (k : Nat) : Int32 := if k = 0 then 3 else if k = 1 then 0 else if k = 2 then 1 else 2
def ra_ea (P : ra_P) (k : Nat) : Int32 := if k = 0 then 0 else if k = 1 then P.2.2.2 else if k = 2 then P.2.2.1 else if k = 3 then P.2.2.2 + P.2.2.1 else 78
def ra_eb (k : Nat) : Int32 := if k ≤ 2 then 0 else if k = 3 then 77 else 5
/-- place c of an entry of term t with command k -/
def ra_e (P : ra_P) (t k c : Nat) : Int32 := if c = 0 then nI t else if c = 1 then ra_kind k else if c = 2 then (if k = 0 then 0 else nI P.2.1) else if c = 3 then (if k = 0 then 0 else nI P.1) else if c = 4 then nI k else if c = 5 then ra_ea P k else ra_eb k
/-- a vote: 0 is none -/
def ra_w (v : Nat) : Int32 := if v = 0 then -1 else nI (v - 1)
def ra_a (o l S : Nat) (a : Nat → Int32) : Prop := ∀ n, n < l → a n = nI (em_g S (o + n))
def ra_f (S : Nat) (a : Nat → Int32) : Prop := ∀ n, n < 5 → a n = ra_w (em_g S (22 + n))
def ra_z (a : Nat → Int32) : Prop := ∀ n, n < 5 → a n = 0
def ra_n (S : Nat) : Prop := ∀ n, n < 5 → em_g S (32 + n) ≤ 16
def ra_l (P : ra_P) (S : Nat) (a : Nat → Int32) : Prop := ∀ n i c, n < 5 → i < em_g S (32 + n) → c < 7 → a (7 * (16 * n + i) + c) = ra_e P (em_g S (97 + 16 * n + i)) (em_g S (177 + 16 * n + i)) c
def ra_p (P : ra_P) (S : Nat) (a : Nat → Int32) : Prop := ∀ n c, n < 5 → c < 15 → a (15 * n + c) = ra_v P (em_g S (42 + n)) c
def ra_q1 (P : ra_P) (S : Nat) (a : Nat → Int32) (p : Nat) : Prop := (em_g S (258 + 10 * p) < 5 ∧ em_g S (259 + 10 * p) < 5) ∧ (∀ c, c < 8 → a (16 * p + c) = nI (em_g S (257 + 10 * p + c))) ∧ (em_g S (264 + 10 * p) = 1 → ∀ c, c < 7 → a (16 * p + (8 + c)) = ra_e P (em_g S (265 + 10 * p)) (em_g S (266 + 10 * p)) c)
def ra_q (P : ra_P) (S : Nat) (a : Nat → Int32) : Prop := ∀ p, p < 64 → ra_q1 P S a p
def ra_m (P : ra_P) (M : Nat) (a : Nat → Int32) : Prop := (em_g M 1 < 5 ∧ em_g M 2 < 5) ∧ (∀ c, c < 8 → a c = nI (em_g M c)) ∧ (em_g M 7 = 1 → ∀ c, c < 7 → a (8 + c) = ra_e P (em_g M 8) (em_g M 9) c)
def ra_h (S : Nat) (f1 f2 f3 f4 : Int32) : Prop := f1 = nI (em_g S 0) ∧ em_g S 0 < 64 ∧ f2 = nI (em_g S 1) ∧ em_g S 1 ≤ 64 ∧ f3 = -1 ∧ f4 = 0
def ra_R (P : ra_P) (M S : Nat) (u : St2) : Prop := match u with
  | (f1, f2, f3, f4, a1, a2, a3, a4, a5, a6, a7, a8, a9, a10, a11, a12, a13, a14, a15, a16, a17) => (P.1 < 6 ∧ P.2.1 < 4) ∧ ra_h S f1 f2 f3 f4 ∧ ra_a 2 5 S a1 ∧ ra_a 7 5 S a2 ∧ ra_a 12 5 S a3 ∧ ra_a 17 5 S a4 ∧ ra_f S a5 ∧ ra_a 27 5 S a6 ∧ ra_z a7 ∧ ra_z a8 ∧ ra_a 32 5 S a9 ∧ ra_n S ∧ ra_l P S a10 ∧ ra_a 37 5 S a11 ∧ ra_p P S a12 ∧ ra_a 47 25 S a14 ∧ ra_a 72 25 S a15 ∧ ra_q P S a16 ∧ ra_m P M a17
section
variable {P : ra_P} {M S S' : Nat} {f1 f2 f3 f4 : Int32} {a1 a2 a3 a4 a5 a6 a7 a8 a9 a10 a11 a12 a13 a14 a15 a16 a17 : Nat → Int32}
theorem ra_I (hP : P.1 < 6 ∧ P.2.1 < 4) (hF : ra_h S f1 f2 f3 f4) (h1 : ra_a 2 5 S a1) (h2 : ra_a 7 5 S a2) (h3 : ra_a 12 5 S a3) (h4 : ra_a 17 5 S a4) (h5 : ra_f S a5) (h6 : ra_a 27 5 S a6) (h7 : ra_z a7) (h8 : ra_z a8) (h9 : ra_a 32 5 S a9) (hn : ra_n S) (h10 : ra_l P S a10) (h11 : ra_a 37 5 S a11) (h12 : ra_p P S a12) (h14 : ra_a 47 25 S a14) (h15 : ra_a 72 25 S a15) (h16 : ra_q P S a16) (h17 : ra_m P M a17) : ra_R P M S (f1, f2, f3, f4, a1, a2, a3, a4, a5, a6, a7, a8, a9, a10, a11, a12, a13, a14, a15, a16, a17) := by
  unfold ra_R
  exact ⟨hP, hF, h1, h2, h3, h4, h5, h6, h7, h8, h9, hn, h10, h11, h12, h14, h15, h16, h17⟩
theorem ra_h_k (h : ra_h S f1 f2 f3 f4) (hG : ∀ k, k < 2 → em_g S' k = em_g S k) : ra_h S' f1 f2 f3 f4 := by
  obtain ⟨e1, e2, e3, e4, e5, e6⟩ := h
  have g0 := hG 0 (by omega)
  have g1 := hG 1 (by omega)
  exact ⟨by rw [g0]; exact e1, by rw [g0]; exact e2, by rw [g1]; exact e3, by rw [g1]; exact e4, e5, e6⟩
theorem ra_a_k {o l : Nat} {a : Nat → Int32} (h : ra_a o l S a) (hG : ∀ k, (o ≤ k ∧ k < o + l) → em_g S' k = em_g S k) : ra_a o l S' a :=
  fun n z => by rw [hG (o + n) ⟨by omega, by omega⟩]; exact h n z
theorem ra_a_u {o l i v : Nat} {a : Nat → Int32} (h : ra_a o l S a) (hi : i < l) (hv : v < 256) : ra_a o l (em_s S (o + i) v) (upd a i (nI v)) := by
  intro n z
  by_cases e : n = i
  · rw [e, pk_us, by_eq hv]
  · rw [pk_un e, by_ne hv (by omega)]
    exact h n z
theorem ra_f_k {a : Nat → Int32} (h : ra_f S a) (hG : ∀ k, (22 ≤ k ∧ k < 27) → em_g S' k = em_g S k) : ra_f S' a :=
  fun n z => by rw [hG (22 + n) ⟨by omega, by omega⟩]; exact h n z
theorem ra_f_u {i v : Nat} {a : Nat → Int32} (h : ra_f S a) (hi : i < 5) (hv : v < 256) : ra_f (em_s S (22 + i) v) (upd a i (ra_w v)) := by
  intro n z
  by_cases e : n = i
  · rw [e, pk_us, by_eq hv]
  · rw [pk_un e, by_ne hv (by omega)]
    exact h n z
theorem ra_n_k (h : ra_n S) (hG : ∀ k, (32 ≤ k ∧ k < 37) → em_g S' k = em_g S k) : ra_n S' :=
  fun n z => by rw [hG (32 + n) ⟨by omega, by omega⟩]; exact h n z
theorem ra_n_u {i v : Nat} (h : ra_n S) (hi : i < 5) (hv : v ≤ 16) : ra_n (em_s S (32 + i) v) := by
  intro n z
  by_cases e : n = i
  · rw [e, by_eq (by omega)]
    exact hv
  · rw [by_ne (by omega) (by omega)]
    exact h n z
theorem ra_l_k {a : Nat → Int32} (h : ra_l P S a) (hG : ∀ k, ((32 ≤ k ∧ k < 37) ∨ (97 ≤ k ∧ k < 257)) → em_g S' k = em_g S k) (hn : ra_n S) : ra_l P S' a := by
  intro n i c z1 z2 z3
  rw [hG (32 + n) (Or.inl ⟨by omega, by omega⟩)] at z2
  have := hn n z1
  rw [hG (97 + 16 * n + i) (Or.inr ⟨by omega, by omega⟩), hG (177 + 16 * n + i) (Or.inr ⟨by omega, by omega⟩)]
  exact h n i c z1 z2 z3
theorem ra_l_u {i v : Nat} {a : Nat → Int32} (h : ra_l P S a) (hi : i < 5) (hv : v ≤ 16) (hn : ra_n S) (hs : ∀ j c, j < v → c < 7 → a (7 * (16 * i + j) + c) = ra_e P (em_g S (97 + 16 * i + j)) (em_g S (177 + 16 * i + j)) c) : ra_l P (em_s S (32 + i) v) a := by
  intro n j c z1 z2 z3
  have hv2 : v < 256 := by omega
  by_cases e : n = i
  · subst e
    rw [by_eq hv2] at z2
    rw [by_ne hv2 (by omega), by_ne hv2 (by omega)]
    exact hs j c z2 z3
  · rw [by_ne hv2 (by omega)] at z2
    rw [by_ne hv2 (by omega), by_ne hv2 (by omega)]
    exact h n j c z1 z2 z3
theorem ra_l_n {i j v k : Nat} {a : Nat → Int32} (h : ra_l P S a) (hn : ra_n S) (hi : i < 5) (hj : em_g S (32 + i) ≤ j) (hj2 : j < 16) (hv : v < 256) (hk : k = 97 + 16 * i + j ∨ k = 177 + 16 * i + j) : ra_l P (em_s S k v) a := by
  intro n q c z1 z2 z3
  rw [by_ne hv (by omega)] at z2
  have h16 := hn n z1
  have ne : n ≠ i ∨ q ≠ j := by
    by_cases e : n = i
    · subst e
      exact Or.inr (by omega)
    · exact Or.inl e
  rw [by_ne hv (by omega), by_ne hv (by omega)]
  exact h n q c z1 z2 z3
theorem ra_p_k {a : Nat → Int32} (h : ra_p P S a) (hG : ∀ k, (42 ≤ k ∧ k < 47) → em_g S' k = em_g S k) : ra_p P S' a :=
  fun n c z1 z2 => by rw [hG (42 + n) ⟨by omega, by omega⟩]; exact h n c z1 z2
theorem ra_p_u {i v : Nat} {a b : Nat → Int32} (h : ra_p P S b) (hi : i < 5) (hv : v < 256) (ha : ∀ c, c < 15 → a (15 * i + c) = ra_v P v c) (hb : ∀ m c, m < 5 → m ≠ i → c < 15 → a (15 * m + c) = b (15 * m + c)) : ra_p P (em_s S (42 + i) v) a := by
  intro n c z1 z2
  by_cases e : n = i
  · subst e
    rw [by_eq hv]
    exact ha c z2
  · rw [by_ne hv (by omega), hb n c z1 e z2]
    exact h n c z1 z2
theorem ra_q1_k {a b : Nat → Int32} {p : Nat} (h : ra_q1 P S a p) (hG : ∀ k, (257 + 10 * p ≤ k ∧ k < 267 + 10 * p) → em_g S' k = em_g S k) (hb : ∀ c, c < 16 → b (16 * p + c) = a (16 * p + c)) : ra_q1 P S' b p := by
  obtain ⟨⟨e1, e2⟩, e3, e4⟩ := h
  refine ⟨⟨?_, ?_⟩, ?_, ?_⟩
  · rw [hG _ ⟨by omega, by omega⟩]; exact e1
  · rw [hG _ ⟨by omega, by omega⟩]; exact e2
  · intro c hc
    rw [hG _ ⟨by omega, by omega⟩, hb c (by omega)]; exact e3 c hc
  · intro e c hc
    rw [hG _ ⟨by omega, by omega⟩] at e
    rw [hG _ ⟨by omega, by omega⟩, hG _ ⟨by omega, by omega⟩, hb (8 + c) (by omega)]
    exact e4 e c hc
theorem ra_q_k {a : Nat → Int32} (h : ra_q P S a) (hG : ∀ k, 257 ≤ k → em_g S' k = em_g S k) : ra_q P S' a :=
  fun p hp => ra_q1_k (h p hp) (fun k hk => hG k (by omega)) (fun _ _ => rfl)
theorem ra_u1 {i v : Nat} (h : ra_R P M S (f1, f2, f3, f4, a1, a2, a3, a4, a5, a6, a7, a8, a9, a10, a11, a12, a13, a14, a15, a16, a17)) (hi : i < 5) (hv : v < 256) : ra_R P M (em_s S (2 + i) v) (f1, f2, f3, f4, upd a1 i (nI v), a2, a3, a4, a5, a6, a7, a8, a9, a10, a11, a12, a13, a14, a15, a16, a17) := by
  obtain ⟨hP, hF, h1, h2, h3, h4, h5, h6, h7, h8, h9, hn, h10, h11, h12, h14, h15, h16, h17⟩ := h
  exact ra_I hP (ra_h_k hF (fun k hk => by_ne hv (by omega))) (ra_a_u h1 hi hv) (ra_a_k h2 (fun k hk => by_ne hv (by omega))) (ra_a_k h3 (fun k hk => by_ne hv (by omega))) (ra_a_k h4 (fun k hk => by_ne hv (by omega))) (ra_f_k h5 (fun k hk => by_ne hv (by omega))) (ra_a_k h6 (fun k hk => by_ne hv (by omega))) h7 h8 (ra_a_k h9 (fun k hk => by_ne hv (by omega))) (ra_n_k hn (fun k hk => by_ne hv (by omega))) (ra_l_k h10 (fun k hk => by_ne hv (by omega)) hn) (ra_a_k h11 (fun k hk => by_ne hv (by omega))) (ra_p_k h12 (fun k hk => by_ne hv (by omega))) (ra_a_k h14 (fun k hk => by_ne hv (by omega))) (ra_a_k h15 (fun k hk => by_ne hv (by omega))) (ra_q_k h16 (fun k hk => by_ne hv (by omega))) h17
theorem ra_u2 {i v : Nat} (h : ra_R P M S (f1, f2, f3, f4, a1, a2, a3, a4, a5, a6, a7, a8, a9, a10, a11, a12, a13, a14, a15, a16, a17)) (hi : i < 5) (hv : v < 256) : ra_R P M (em_s S (7 + i) v) (f1, f2, f3, f4, a1, upd a2 i (nI v), a3, a4, a5, a6, a7, a8, a9, a10, a11, a12, a13, a14, a15, a16, a17) := by
  obtain ⟨hP, hF, h1, h2, h3, h4, h5, h6, h7, h8, h9, hn, h10, h11, h12, h14, h15, h16, h17⟩ := h
  exact ra_I hP (ra_h_k hF (fun k hk => by_ne hv (by omega))) (ra_a_k h1 (fun k hk => by_ne hv (by omega))) (ra_a_u h2 hi hv) (ra_a_k h3 (fun k hk => by_ne hv (by omega))) (ra_a_k h4 (fun k hk => by_ne hv (by omega))) (ra_f_k h5 (fun k hk => by_ne hv (by omega))) (ra_a_k h6 (fun k hk => by_ne hv (by omega))) h7 h8 (ra_a_k h9 (fun k hk => by_ne hv (by omega))) (ra_n_k hn (fun k hk => by_ne hv (by omega))) (ra_l_k h10 (fun k hk => by_ne hv (by omega)) hn) (ra_a_k h11 (fun k hk => by_ne hv (by omega))) (ra_p_k h12 (fun k hk => by_ne hv (by omega))) (ra_a_k h14 (fun k hk => by_ne hv (by omega))) (ra_a_k h15 (fun k hk => by_ne hv (by omega))) (ra_q_k h16 (fun k hk => by_ne hv (by omega))) h17
theorem ra_u3 {i v : Nat} (h : ra_R P M S (f1, f2, f3, f4, a1, a2, a3, a4, a5, a6, a7, a8, a9, a10, a11, a12, a13, a14, a15, a16, a17)) (hi : i < 5) (hv : v < 256) : ra_R P M (em_s S (12 + i) v) (f1, f2, f3, f4, a1, a2, upd a3 i (nI v), a4, a5, a6, a7, a8, a9, a10, a11, a12, a13, a14, a15, a16, a17) := by
  obtain ⟨hP, hF, h1, h2, h3, h4, h5, h6, h7, h8, h9, hn, h10, h11, h12, h14, h15, h16, h17⟩ := h
  exact ra_I hP (ra_h_k hF (fun k hk => by_ne hv (by omega))) (ra_a_k h1 (fun k hk => by_ne hv (by omega))) (ra_a_k h2 (fun k hk => by_ne hv (by omega))) (ra_a_u h3 hi hv) (ra_a_k h4 (fun k hk => by_ne hv (by omega))) (ra_f_k h5 (fun k hk => by_ne hv (by omega))) (ra_a_k h6 (fun k hk => by_ne hv (by omega))) h7 h8 (ra_a_k h9 (fun k hk => by_ne hv (by omega))) (ra_n_k hn (fun k hk => by_ne hv (by omega))) (ra_l_k h10 (fun k hk => by_ne hv (by omega)) hn) (ra_a_k h11 (fun k hk => by_ne hv (by omega))) (ra_p_k h12 (fun k hk => by_ne hv (by omega))) (ra_a_k h14 (fun k hk => by_ne hv (by omega))) (ra_a_k h15 (fun k hk => by_ne hv (by omega))) (ra_q_k h16 (fun k hk => by_ne hv (by omega))) h17
theorem ra_u4 {i v : Nat} (h : ra_R P M S (f1, f2, f3, f4, a1, a2, a3, a4, a5, a6, a7, a8, a9, a10, a11, a12, a13, a14, a15, a16, a17)) (hi : i < 5) (hv : v < 256) : ra_R P M (em_s S (17 + i) v) (f1, f2, f3, f4, a1, a2, a3, upd a4 i (nI v), a5, a6, a7, a8, a9, a10, a11, a12, a13, a14, a15, a16, a17) := by
  obtain ⟨hP, hF, h1, h2, h3, h4, h5, h6, h7, h8, h9, hn, h10, h11, h12, h14, h15, h16, h17⟩ := h
  exact ra_I hP (ra_h_k hF (fun k hk => by_ne hv (by omega))) (ra_a_k h1 (fun k hk => by_ne hv (by omega))) (ra_a_k h2 (fun k hk => by_ne hv (by omega))) (ra_a_k h3 (fun k hk => by_ne hv (by omega))) (ra_a_u h4 hi hv) (ra_f_k h5 (fun k hk => by_ne hv (by omega))) (ra_a_k h6 (fun k hk => by_ne hv (by omega))) h7 h8 (ra_a_k h9 (fun k hk => by_ne hv (by omega))) (ra_n_k hn (fun k hk => by_ne hv (by omega))) (ra_l_k h10 (fun k hk => by_ne hv (by omega)) hn) (ra_a_k h11 (fun k hk => by_ne hv (by omega))) (ra_p_k h12 (fun k hk => by_ne hv (by omega))) (ra_a_k h14 (fun k hk => by_ne hv (by omega))) (ra_a_k h15 (fun k hk => by_ne hv (by omega))) (ra_q_k h16 (fun k hk => by_ne hv (by omega))) h17
theorem ra_u6 {i v : Nat} (h : ra_R P M S (f1, f2, f3, f4, a1, a2, a3, a4, a5, a6, a7, a8, a9, a10, a11, a12, a13, a14, a15, a16, a17)) (hi : i < 5) (hv : v < 256) : ra_R P M (em_s S (27 + i) v) (f1, f2, f3, f4, a1, a2, a3, a4, a5, upd a6 i (nI v), a7, a8, a9, a10, a11, a12, a13, a14, a15, a16, a17) := by
  obtain ⟨hP, hF, h1, h2, h3, h4, h5, h6, h7, h8, h9, hn, h10, h11, h12, h14, h15, h16, h17⟩ := h
  exact ra_I hP (ra_h_k hF (fun k hk => by_ne hv (by omega))) (ra_a_k h1 (fun k hk => by_ne hv (by omega))) (ra_a_k h2 (fun k hk => by_ne hv (by omega))) (ra_a_k h3 (fun k hk => by_ne hv (by omega))) (ra_a_k h4 (fun k hk => by_ne hv (by omega))) (ra_f_k h5 (fun k hk => by_ne hv (by omega))) (ra_a_u h6 hi hv) h7 h8 (ra_a_k h9 (fun k hk => by_ne hv (by omega))) (ra_n_k hn (fun k hk => by_ne hv (by omega))) (ra_l_k h10 (fun k hk => by_ne hv (by omega)) hn) (ra_a_k h11 (fun k hk => by_ne hv (by omega))) (ra_p_k h12 (fun k hk => by_ne hv (by omega))) (ra_a_k h14 (fun k hk => by_ne hv (by omega))) (ra_a_k h15 (fun k hk => by_ne hv (by omega))) (ra_q_k h16 (fun k hk => by_ne hv (by omega))) h17
theorem ra_u11 {i v : Nat} (h : ra_R P M S (f1, f2, f3, f4, a1, a2, a3, a4, a5, a6, a7, a8, a9, a10, a11, a12, a13, a14, a15, a16, a17)) (hi : i < 5) (hv : v < 256) : ra_R P M (em_s S (37 + i) v) (f1, f2, f3, f4, a1, a2, a3, a4, a5, a6, a7, a8, a9, a10, upd a11 i (nI v), a12, a13, a14, a15, a16, a17) := by
  obtain ⟨hP, hF, h1, h2, h3, h4, h5, h6, h7, h8, h9, hn, h10, h11, h12, h14, h15, h16, h17⟩ := h
  exact ra_I hP (ra_h_k hF (fun k hk => by_ne hv (by omega))) (ra_a_k h1 (fun k hk => by_ne hv (by omega))) (ra_a_k h2 (fun k hk => by_ne hv (by omega))) (ra_a_k h3 (fun k hk => by_ne hv (by omega))) (ra_a_k h4 (fun k hk => by_ne hv (by omega))) (ra_f_k h5 (fun k hk => by_ne hv (by omega))) (ra_a_k h6 (fun k hk => by_ne hv (by omega))) h7 h8 (ra_a_k h9 (fun k hk => by_ne hv (by omega))) (ra_n_k hn (fun k hk => by_ne hv (by omega))) (ra_l_k h10 (fun k hk => by_ne hv (by omega)) hn) (ra_a_u h11 hi hv) (ra_p_k h12 (fun k hk => by_ne hv (by omega))) (ra_a_k h14 (fun k hk => by_ne hv (by omega))) (ra_a_k h15 (fun k hk => by_ne hv (by omega))) (ra_q_k h16 (fun k hk => by_ne hv (by omega))) h17
theorem ra_u14 {i v : Nat} (h : ra_R P M S (f1, f2, f3, f4, a1, a2, a3, a4, a5, a6, a7, a8, a9, a10, a11, a12, a13, a14, a15, a16, a17)) (hi : i < 25) (hv : v < 256) : ra_R P M (em_s S (47 + i) v) (f1, f2, f3, f4, a1, a2, a3, a4, a5, a6, a7, a8, a9, a10, a11, a12, a13, upd a14 i (nI v), a15, a16, a17) := by
  obtain ⟨hP, hF, h1, h2, h3, h4, h5, h6, h7, h8, h9, hn, h10, h11, h12, h14, h15, h16, h17⟩ := h
  exact ra_I hP (ra_h_k hF (fun k hk => by_ne hv (by omega))) (ra_a_k h1 (fun k hk => by_ne hv (by omega))) (ra_a_k h2 (fun k hk => by_ne hv (by omega))) (ra_a_k h3 (fun k hk => by_ne hv (by omega))) (ra_a_k h4 (fun k hk => by_ne hv (by omega))) (ra_f_k h5 (fun k hk => by_ne hv (by omega))) (ra_a_k h6 (fun k hk => by_ne hv (by omega))) h7 h8 (ra_a_k h9 (fun k hk => by_ne hv (by omega))) (ra_n_k hn (fun k hk => by_ne hv (by omega))) (ra_l_k h10 (fun k hk => by_ne hv (by omega)) hn) (ra_a_k h11 (fun k hk => by_ne hv (by omega))) (ra_p_k h12 (fun k hk => by_ne hv (by omega))) (ra_a_u h14 hi hv) (ra_a_k h15 (fun k hk => by_ne hv (by omega))) (ra_q_k h16 (fun k hk => by_ne hv (by omega))) h17
theorem ra_u15 {i v : Nat} (h : ra_R P M S (f1, f2, f3, f4, a1, a2, a3, a4, a5, a6, a7, a8, a9, a10, a11, a12, a13, a14, a15, a16, a17)) (hi : i < 25) (hv : v < 256) : ra_R P M (em_s S (72 + i) v) (f1, f2, f3, f4, a1, a2, a3, a4, a5, a6, a7, a8, a9, a10, a11, a12, a13, a14, upd a15 i (nI v), a16, a17) := by
  obtain ⟨hP, hF, h1, h2, h3, h4, h5, h6, h7, h8, h9, hn, h10, h11, h12, h14, h15, h16, h17⟩ := h
  exact ra_I hP (ra_h_k hF (fun k hk => by_ne hv (by omega))) (ra_a_k h1 (fun k hk => by_ne hv (by omega))) (ra_a_k h2 (fun k hk => by_ne hv (by omega))) (ra_a_k h3 (fun k hk => by_ne hv (by omega))) (ra_a_k h4 (fun k hk => by_ne hv (by omega))) (ra_f_k h5 (fun k hk => by_ne hv (by omega))) (ra_a_k h6 (fun k hk => by_ne hv (by omega))) h7 h8 (ra_a_k h9 (fun k hk => by_ne hv (by omega))) (ra_n_k hn (fun k hk => by_ne hv (by omega))) (ra_l_k h10 (fun k hk => by_ne hv (by omega)) hn) (ra_a_k h11 (fun k hk => by_ne hv (by omega))) (ra_p_k h12 (fun k hk => by_ne hv (by omega))) (ra_a_k h14 (fun k hk => by_ne hv (by omega))) (ra_a_u h15 hi hv) (ra_q_k h16 (fun k hk => by_ne hv (by omega))) h17
theorem ra_u5 {i v : Nat} (h : ra_R P M S (f1, f2, f3, f4, a1, a2, a3, a4, a5, a6, a7, a8, a9, a10, a11, a12, a13, a14, a15, a16, a17)) (hi : i < 5) (hv : v < 256) : ra_R P M (em_s S (22 + i) v) (f1, f2, f3, f4, a1, a2, a3, a4, upd a5 i (ra_w v), a6, a7, a8, a9, a10, a11, a12, a13, a14, a15, a16, a17) := by
  obtain ⟨hP, hF, h1, h2, h3, h4, h5, h6, h7, h8, h9, hn, h10, h11, h12, h14, h15, h16, h17⟩ := h
  exact ra_I hP (ra_h_k hF (fun k hk => by_ne hv (by omega))) (ra_a_k h1 (fun k hk => by_ne hv (by omega))) (ra_a_k h2 (fun k hk => by_ne hv (by omega))) (ra_a_k h3 (fun k hk => by_ne hv (by omega))) (ra_a_k h4 (fun k hk => by_ne hv (by omega))) (ra_f_u h5 hi hv) (ra_a_k h6 (fun k hk => by_ne hv (by omega))) h7 h8 (ra_a_k h9 (fun k hk => by_ne hv (by omega))) (ra_n_k hn (fun k hk => by_ne hv (by omega))) (ra_l_k h10 (fun k hk => by_ne hv (by omega)) hn) (ra_a_k h11 (fun k hk => by_ne hv (by omega))) (ra_p_k h12 (fun k hk => by_ne hv (by omega))) (ra_a_k h14 (fun k hk => by_ne hv (by omega))) (ra_a_k h15 (fun k hk => by_ne hv (by omega))) (ra_q_k h16 (fun k hk => by_ne hv (by omega))) h17
theorem ra_u9 {i v : Nat} (h : ra_R P M S (f1, f2, f3, f4, a1, a2, a3, a4, a5, a6, a7, a8, a9, a10, a11, a12, a13, a14, a15, a16, a17)) (hi : i < 5) (hv : v ≤ 16) (hs : ∀ j c, j < v → c < 7 → a10 (7 * (16 * i + j) + c) = ra_e P (em_g S (97 + 16 * i + j)) (em_g S (177 + 16 * i + j)) c) : ra_R P M (em_s S (32 + i) v) (f1, f2, f3, f4, a1, a2, a3, a4, a5, a6, a7, a8, upd a9 i (nI v), a10, a11, a12, a13, a14, a15, a16, a17) := by
  obtain ⟨hP, hF, h1, h2, h3, h4, h5, h6, h7, h8, h9, hn, h10, h11, h12, h14, h15, h16, h17⟩ := h
  have hv2 : v < 256 := by omega
  exact ra_I hP (ra_h_k hF (fun k hk => by_ne hv2 (by omega))) (ra_a_k h1 (fun k hk => by_ne hv2 (by omega))) (ra_a_k h2 (fun k hk => by_ne hv2 (by omega))) (ra_a_k h3 (fun k hk => by_ne hv2 (by omega))) (ra_a_k h4 (fun k hk => by_ne hv2 (by omega))) (ra_f_k h5 (fun k hk => by_ne hv2 (by omega))) (ra_a_k h6 (fun k hk => by_ne hv2 (by omega))) h7 h8 (ra_a_u h9 hi hv2) (ra_n_u hn hi hv) (ra_l_u h10 hi hv hn hs) (ra_a_k h11 (fun k hk => by_ne hv2 (by omega))) (ra_p_k h12 (fun k hk => by_ne hv2 (by omega))) (ra_a_k h14 (fun k hk => by_ne hv2 (by omega))) (ra_a_k h15 (fun k hk => by_ne hv2 (by omega))) (ra_q_k h16 (fun k hk => by_ne hv2 (by omega))) h17
theorem ra_uLt {i j v : Nat} (h : ra_R P M S (f1, f2, f3, f4, a1, a2, a3, a4, a5, a6, a7, a8, a9, a10, a11, a12, a13, a14, a15, a16, a17)) (hi : i < 5) (hj : em_g S (32 + i) ≤ j) (hj2 : j < 16) (hv : v < 256) : ra_R P M (em_s S (97 + 16 * i + j) v) (f1, f2, f3, f4, a1, a2, a3, a4, a5, a6, a7, a8, a9, a10, a11, a12, a13, a14, a15, a16, a17) := by
  obtain ⟨hP, hF, h1, h2, h3, h4, h5, h6, h7, h8, h9, hn, h10, h11, h12, h14, h15, h16, h17⟩ := h
  exact ra_I hP (ra_h_k hF (fun k hk => by_ne hv (by omega))) (ra_a_k h1 (fun k hk => by_ne hv (by omega))) (ra_a_k h2 (fun k hk => by_ne hv (by omega))) (ra_a_k h3 (fun k hk => by_ne hv (by omega))) (ra_a_k h4 (fun k hk => by_ne hv (by omega))) (ra_f_k h5 (fun k hk => by_ne hv (by omega))) (ra_a_k h6 (fun k hk => by_ne hv (by omega))) h7 h8 (ra_a_k h9 (fun k hk => by_ne hv (by omega))) (ra_n_k hn (fun k hk => by_ne hv (by omega))) (ra_l_n h10 hn hi hj hj2 hv (Or.inl rfl)) (ra_a_k h11 (fun k hk => by_ne hv (by omega))) (ra_p_k h12 (fun k hk => by_ne hv (by omega))) (ra_a_k h14 (fun k hk => by_ne hv (by omega))) (ra_a_k h15 (fun k hk => by_ne hv (by omega))) (ra_q_k h16 (fun k hk => by_ne hv (by omega))) h17
theorem ra_uLc {i j v : Nat} (h : ra_R P M S (f1, f2, f3, f4, a1, a2, a3, a4, a5, a6, a7, a8, a9, a10, a11, a12, a13, a14, a15, a16, a17)) (hi : i < 5) (hj : em_g S (32 + i) ≤ j) (hj2 : j < 16) (hv : v < 256) : ra_R P M (em_s S (177 + 16 * i + j) v) (f1, f2, f3, f4, a1, a2, a3, a4, a5, a6, a7, a8, a9, a10, a11, a12, a13, a14, a15, a16, a17) := by
  obtain ⟨hP, hF, h1, h2, h3, h4, h5, h6, h7, h8, h9, hn, h10, h11, h12, h14, h15, h16, h17⟩ := h
  exact ra_I hP (ra_h_k hF (fun k hk => by_ne hv (by omega))) (ra_a_k h1 (fun k hk => by_ne hv (by omega))) (ra_a_k h2 (fun k hk => by_ne hv (by omega))) (ra_a_k h3 (fun k hk => by_ne hv (by omega))) (ra_a_k h4 (fun k hk => by_ne hv (by omega))) (ra_f_k h5 (fun k hk => by_ne hv (by omega))) (ra_a_k h6 (fun k hk => by_ne hv (by omega))) h7 h8 (ra_a_k h9 (fun k hk => by_ne hv (by omega))) (ra_n_k hn (fun k hk => by_ne hv (by omega))) (ra_l_n h10 hn hi hj hj2 hv (Or.inr rfl)) (ra_a_k h11 (fun k hk => by_ne hv (by omega))) (ra_p_k h12 (fun k hk => by_ne hv (by omega))) (ra_a_k h14 (fun k hk => by_ne hv (by omega))) (ra_a_k h15 (fun k hk => by_ne hv (by omega))) (ra_q_k h16 (fun k hk => by_ne hv (by omega))) h17
theorem ra_u10 {a : Nat → Int32} (h : ra_R P M S (f1, f2, f3, f4, a1, a2, a3, a4, a5, a6, a7, a8, a9, a10, a11, a12, a13, a14, a15, a16, a17)) (ha : ∀ n i c, n < 5 → i < em_g S (32 + n) → c < 7 → a (7 * (16 * n + i) + c) = a10 (7 * (16 * n + i) + c)) : ra_R P M S (f1, f2, f3, f4, a1, a2, a3, a4, a5, a6, a7, a8, a9, a, a11, a12, a13, a14, a15, a16, a17) := by
  obtain ⟨hP, hF, h1, h2, h3, h4, h5, h6, h7, h8, h9, hn, h10, h11, h12, h14, h15, h16, h17⟩ := h
  exact ra_I hP hF h1 h2 h3 h4 h5 h6 h7 h8 h9 hn (fun n i c z1 z2 z3 => (ha n i c z1 z2 z3).trans (h10 n i c z1 z2 z3)) h11 h12 h14 h15 h16 h17
theorem ra_u12 {i v : Nat} {a : Nat → Int32} (h : ra_R P M S (f1, f2, f3, f4, a1, a2, a3, a4, a5, a6, a7, a8, a9, a10, a11, a12, a13, a14, a15, a16, a17)) (hi : i < 5) (hv : v < 256) (ha : ∀ c, c < 15 → a (15 * i + c) = ra_v P v c) (hb : ∀ m c, m < 5 → m ≠ i → c < 15 → a (15 * m + c) = a12 (15 * m + c)) : ra_R P M (em_s S (42 + i) v) (f1, f2, f3, f4, a1, a2, a3, a4, a5, a6, a7, a8, a9, a10, a11, a, a13, a14, a15, a16, a17) := by
  obtain ⟨hP, hF, h1, h2, h3, h4, h5, h6, h7, h8, h9, hn, h10, h11, h12, h14, h15, h16, h17⟩ := h
  exact ra_I hP (ra_h_k hF (fun k hk => by_ne hv (by omega))) (ra_a_k h1 (fun k hk => by_ne hv (by omega))) (ra_a_k h2 (fun k hk => by_ne hv (by omega))) (ra_a_k h3 (fun k hk => by_ne hv (by omega))) (ra_a_k h4 (fun k hk => by_ne hv (by omega))) (ra_f_k h5 (fun k hk => by_ne hv (by omega))) (ra_a_k h6 (fun k hk => by_ne hv (by omega))) h7 h8 (ra_a_k h9 (fun k hk => by_ne hv (by omega))) (ra_n_k hn (fun k hk => by_ne hv (by omega))) (ra_l_k h10 (fun k hk => by_ne hv (by omega)) hn) (ra_a_k h11 (fun k hk => by_ne hv (by omega))) (ra_p_u h12 hi hv ha hb) (ra_a_k h14 (fun k hk => by_ne hv (by omega))) (ra_a_k h15 (fun k hk => by_ne hv (by omega))) (ra_q_k h16 (fun k hk => by_ne hv (by omega))) h17
end
end
section
/-! ===== messages put into the queue, and taken ===== -/
section
variable {P : ra_P} {M S S' : Nat} {f1 f2 f3 f4 : Int32} {a1 a2 a3 a4 a5 a6 a7 a8 a9 a10 a11 a12 a13 a14 a15 a16 a17 : Nat → Int32}
theorem ra_upo {p w so fr to te x y z : Nat} {a : Nat → Int32} (h : ra_R P M S (f1, f2, f3, f4, a1, a2, a3, a4, a5, a6, a7, a8, a9, a10, a11, a12, a13, a14, a15, a16, a17)) (hp : p < 64) (hw : w < 64) (hso : so < 256) (hfr : fr < 5) (hto : to < 5) (hte : te < 256) (hx : x < 256) (hy : y < 256) (hz : z < 256)
    (ha : ∀ c, c < 8 → a (16 * p + c) = nI (em_g (em_m7 so fr to te x y z) c)) (hb : ∀ j, j < 1024 → (j < 16 * p ∨ 16 * p + 16 ≤ j) → a j = a16 j) :
    ra_R P M (em_s (em_wb S p (em_m7 so fr to te x y z)) 1 (w + 1)) (f1, nI (w + 1), f3, f4, a1, a2, a3, a4, a5, a6, a7, a8, a9, a10, a11, a12, a13, a14, a15, a, a17) := by
  obtain ⟨hP, hF, h1, h2, h3, h4, h5, h6, h7, h8, h9, hn, h10, h11, h12, h14, h15, h16, h17⟩ := h
  obtain ⟨m0, m1, m2, m3, m4, m5, m6, m7, m8⟩ := by_m7 hso (show fr < 256 by omega) (show to < 256 by omega) hte hx hy hz
  have hv : w + 1 < 256 := by omega
  have G : ∀ k, (k < 257 + 10 * p ∨ 267 + 10 * p ≤ k) → k ≠ 1 → em_g (em_s (em_wb S p (em_m7 so fr to te x y z)) 1 (w + 1)) k = em_g S k :=
    fun k z1 z2 => (by_ne hv z2).trans (by_gwn _ _ _ m0 z1)
  have G2 : ∀ c, c < 10 → em_g (em_s (em_wb S p (em_m7 so fr to te x y z)) 1 (w + 1)) (257 + 10 * p + c) = em_g (em_m7 so fr to te x y z) c :=
    fun c hc => (by_ne hv (by omega)).trans (by_gw _ _ _ m0 hc)
  obtain ⟨e1, e2, e3, e4, e5, e6⟩ := hF
  refine ra_I hP ⟨?_, ?_, ?_, ?_, e5, e6⟩ (ra_a_k h1 (fun k hk => G k (by omega) (by omega))) (ra_a_k h2 (fun k hk => G k (by omega) (by omega))) (ra_a_k h3 (fun k hk => G k (by omega) (by omega))) (ra_a_k h4 (fun k hk => G k (by omega) (by omega))) (ra_f_k h5 (fun k hk => G k (by omega) (by omega))) (ra_a_k h6 (fun k hk => G k (by omega) (by omega))) h7 h8 (ra_a_k h9 (fun k hk => G k (by omega) (by omega))) (ra_n_k hn (fun k hk => G k (by omega) (by omega))) (ra_l_k h10 (fun k hk => G k (by omega) (by omega)) hn) (ra_a_k h11 (fun k hk => G k (by omega) (by omega))) (ra_p_k h12 (fun k hk => G k (by omega) (by omega))) (ra_a_k h14 (fun k hk => G k (by omega) (by omega))) (ra_a_k h15 (fun k hk => G k (by omega) (by omega))) ?_ h17
  · rw [G 0 (by omega) (by omega)]; exact e1
  · rw [G 0 (by omega) (by omega)]; exact e2
  · rw [by_eq hv]
  · rw [by_eq hv]; omega
  · intro q hq
    by_cases e : q = p
    · subst e
      refine ⟨⟨?_, ?_⟩, ?_, ?_⟩
      · have := G2 1 (by omega)
        rw [show 258 + 10 * q = 257 + 10 * q + 1 by omega, this, m2]; exact hfr
      · have := G2 2 (by omega)
        rw [show 259 + 10 * q = 257 + 10 * q + 2 by omega, this, m3]; exact hto
      · intro c hc
        rw [G2 c (by omega)]; exact ha c hc
      · intro e c hc
        have := G2 7 (by omega)
        rw [show 264 + 10 * q = 257 + 10 * q + 7 by omega, this, m8] at e
        exact absurd e (by decide)
    · exact ra_q1_k (h16 q hq) (fun k hk => G k (by omega) (by omega)) (fun c hc => hb _ (by omega) (by omega))
theorem ra_usn {p t k : Nat} {a : Nat → Int32} (h : ra_R P M S (f1, f2, f3, f4, a1, a2, a3, a4, a5, a6, a7, a8, a9, a10, a11, a12, a13, a14, a15, a16, a17)) (hp : p < 64) (ht : t < 256) (hk : k < 256) (h1' : a (16 * p + 7) = 1) (ha : ∀ c, c < 7 → a (16 * p + (8 + c)) = ra_e P t k c)
    (hb : ∀ j, j < 1024 → (j < 16 * p + 7 ∨ 16 * p + 15 ≤ j) → a j = a16 j) : ra_R P M (em_s (em_s (em_s S (264 + 10 * p) 1) (265 + 10 * p) t) (266 + 10 * p) k) (f1, f2, f3, f4, a1, a2, a3, a4, a5, a6, a7, a8, a9, a10, a11, a12, a13, a14, a15, a, a17) := by
  obtain ⟨hP, hF, h1, h2, h3, h4, h5, h6, h7, h8, h9, hn, h10, h11, h12, h14, h15, h16, h17⟩ := h
  have G : ∀ j, (j < 264 + 10 * p ∨ 267 + 10 * p ≤ j) → em_g (em_s (em_s (em_s S (264 + 10 * p) 1) (265 + 10 * p) t) (266 + 10 * p) k) j = em_g S j :=
    fun j z => (by_ne hk (by omega)).trans ((by_ne ht (by omega)).trans (by_ne (by decide) (by omega)))
  refine ra_I hP (ra_h_k hF (fun k hk => G k (by omega))) (ra_a_k h1 (fun k hk => G k (by omega))) (ra_a_k h2 (fun k hk => G k (by omega))) (ra_a_k h3 (fun k hk => G k (by omega))) (ra_a_k h4 (fun k hk => G k (by omega))) (ra_f_k h5 (fun k hk => G k (by omega))) (ra_a_k h6 (fun k hk => G k (by omega))) h7 h8 (ra_a_k h9 (fun k hk => G k (by omega))) (ra_n_k hn (fun k hk => G k (by omega))) (ra_l_k h10 (fun k hk => G k (by omega)) hn) (ra_a_k h11 (fun k hk => G k (by omega))) (ra_p_k h12 (fun k hk => G k (by omega))) (ra_a_k h14 (fun k hk => G k (by omega))) (ra_a_k h15 (fun k hk => G k (by omega))) ?_ h17
  intro q hq
  by_cases e : q = p
  · subst e
    obtain ⟨⟨e1, e2⟩, e3, e4⟩ := h16 q hq
    refine ⟨⟨?_, ?_⟩, ?_, ?_⟩
    · rw [G _ (by omega)]; exact e1
    · rw [G _ (by omega)]; exact e2
    · intro c hc
      by_cases e7 : c = 7
      · subst e7
        rw [by_ne hk (by omega), by_ne ht (by omega), show 257 + 10 * q + 7 = 264 + 10 * q by omega, by_eq (by decide), h1']
        rfl
      · rw [G _ (by omega), hb _ (by omega) (by omega)]; exact e3 c hc
    · intro _ c hc
      rw [by_ne (j := 265 + 10 * q) hk (by omega), by_eq ht, by_eq hk]
      exact ha c hc
  · exact ra_q1_k (h16 q hq) (fun k hk => G k (by omega)) (fun c hc => hb _ (by omega) (by omega))
theorem ra_pop {a : Nat → Int32} (h : ra_R P M S (f1, f2, f3, f4, a1, a2, a3, a4, a5, a6, a7, a8, a9, a10, a11, a12, a13, a14, a15, a16, a17)) (ha : ∀ c, c < 16 → a c = a16 (16 * em_g S 0 + c)) :
    ra_R P (em_rb S (em_g S 0)) (em_pp S) (nI ((em_g S 0 + 1) % 64), nI (em_g S 1 - 1), f3, f4, a1, a2, a3, a4, a5, a6, a7, a8, a9, a10, a11, a12, a13, a14, a15, a16, a) := by
  obtain ⟨hP, hF, h1, h2, h3, h4, h5, h6, h7, h8, h9, hn, h10, h11, h12, h14, h15, h16, h17⟩ := h
  obtain ⟨e1, e2, e3, e4, e5, e6⟩ := hF
  have v1 : (em_g S 0 + 1) % 64 < 256 := by omega
  have v2 : em_g S 1 - 1 < 256 := by omega
  have E : em_pp S = em_s (em_s S 0 ((em_g S 0 + 1) % 64)) 1 (em_g S 1 - 1) := rfl
  have G : ∀ j, 2 ≤ j → em_g (em_pp S) j = em_g S j := fun j z => by
    rw [E, by_ne v2 (by omega), by_ne v1 (by omega)]
  refine ra_I hP ⟨?_, ?_, ?_, ?_, e5, e6⟩ (ra_a_k h1 (fun k hk => G k (by omega))) (ra_a_k h2 (fun k hk => G k (by omega))) (ra_a_k h3 (fun k hk => G k (by omega))) (ra_a_k h4 (fun k hk => G k (by omega))) (ra_f_k h5 (fun k hk => G k (by omega))) (ra_a_k h6 (fun k hk => G k (by omega))) h7 h8 (ra_a_k h9 (fun k hk => G k (by omega))) (ra_n_k hn (fun k hk => G k (by omega))) (ra_l_k h10 (fun k hk => G k (by omega)) hn) (ra_a_k h11 (fun k hk => G k (by omega))) (ra_p_k h12 (fun k hk => G k (by omega))) (ra_a_k h14 (fun k hk => G k (by omega))) (ra_a_k h15 (fun k hk => G k (by omega))) (ra_q_k h16 (fun k hk => G k (by omega))) ?_
  · rw [E, by_ne v2 (by omega), by_eq v1]
  · rw [E, by_ne v2 (by omega), by_eq v1]; omega
  · rw [E, by_eq v2]
  · rw [E, by_eq v2]; omega
  · obtain ⟨⟨q1, q2⟩, q3, q4⟩ := h16 (em_g S 0) e2
    refine ⟨⟨?_, ?_⟩, ?_, ?_⟩
    · rw [by_gr _ _ (by omega), show 257 + 10 * em_g S 0 + 1 = 258 + 10 * em_g S 0 by omega]; exact q1
    · rw [by_gr _ _ (by omega), show 257 + 10 * em_g S 0 + 2 = 259 + 10 * em_g S 0 by omega]; exact q2
    · intro c hc
      rw [by_gr _ _ (by omega), ha c (by omega)]; exact q3 c hc
    · intro e c hc
      rw [by_gr _ _ (by omega), show 257 + 10 * em_g S 0 + 7 = 264 + 10 * em_g S 0 by omega] at e
      rw [by_gr _ _ (by omega), by_gr _ _ (by omega), ha (8 + c) (by omega), show 257 + 10 * em_g S 0 + 8 = 265 + 10 * em_g S 0 by omega, show 257 + 10 * em_g S 0 + 9 = 266 + 10 * em_g S 0 by omega]
      exact q4 e c hc
end
end
section
/-! ===== methods that only read ===== -/
section
variable {P : ra_P} {M S : Nat} {u : St2}
theorem wk_16 : (16 : Int32) = nI 16 := rfl
theorem wk_7 : (7 : Int32) = nI 7 := rfl
theorem wk_5 : (5 : Int32) = nI 5 := rfl
theorem wk_15 : (15 : Int32) = nI 15 := rfl
theorem wk_s0 (x : Int32) : x - 0 = x := by grind
theorem wk_z (x : Int32) : 0 + x = x := by grind
theorem wk_lastOf {n : Nat} {post : Int32 → Prop} (h : ra_R P M S u) (hk : n < 5) (hp : post (nI (em_g S (32 + n)))) : wpX_lastOf post u (nI n) := by
  obtain ⟨f1, f2, f3, f4, a1, a2, a3, a4, a5, a6, a7, a8, a9, a10, a11, a12, a13, a14, a15, a16, a17⟩ := u
  obtain ⟨hP, hF, h1, h2, h3, h4, h5, h6, h7, h8, h9, hn, h10, h11, h12, h14, h15, h16, h17⟩ := h
  refine ⟨pk_in n 5 hk, pk_in n 5 hk, ?_⟩
  rw [nI_clamp (by omega), h7 n hk, h9 n hk, wk_z]
  exact hp
theorem wk_cellOf {n j : Nat} {post : Int32 → Prop} (h : ra_R P M S u) (hk : n < 5) (hp : post (nI (7 * (16 * n + j)))) : wpX_cellOf post u (nI n) (nI (j + 1)) := by
  obtain ⟨f1, f2, f3, f4, a1, a2, a3, a4, a5, a6, a7, a8, a9, a10, a11, a12, a13, a14, a15, a16, a17⟩ := u
  obtain ⟨hP, hF, h1, h2, h3, h4, h5, h6, h7, h8, h9, hn, h10, h11, h12, h14, h15, h16, h17⟩ := h
  refine ⟨pk_in n 5 hk, ?_⟩
  rw [nI_clamp (by omega), h7 n hk, wk_s0, wk_16, pk_mul, nI_add, ← Nat.add_assoc, nI_pred, wk_7, pk_mul]
  exact hp
theorem wk_ta0 (n : Nat) : em_ta S n 0 = 0 := rfl
theorem wk_ta1 (n j : Nat) : em_ta S n (j + 1) = em_g S (97 + 16 * n + j) := by
  show em_g S (96 + (16 * n + (j + 1))) = _
  rw [show 96 + (16 * n + (j + 1)) = 97 + 16 * n + j by omega]
theorem wk_ta_lt (n i : Nat) : em_ta S n i < 256 := by
  cases i with
  | zero => rw [wk_ta0]; decide
  | succ j => rw [wk_ta1]; exact by_lt _ _
theorem wk_termAt {n i : Nat} {post : Int32 → Prop} (h : ra_R P M S u) (hk : n < 5) (hi : i ≤ em_g S (32 + n)) (hp : post (nI (em_ta S n i))) : wpX_termAt post u (nI n) (nI i) := by
  have h' := h
  obtain ⟨f1, f2, f3, f4, a1, a2, a3, a4, a5, a6, a7, a8, a9, a10, a11, a12, a13, a14, a15, a16, a17⟩ := u
  obtain ⟨hP, hF, h1, h2, h3, h4, h5, h6, h7, h8, h9, hn, h10, h11, h12, h14, h15, h16, h17⟩ := h
  have l16 := hn n hk
  refine ⟨pk_in n 5 hk, ?_⟩
  rw [nI_clamp (by omega), h7 n hk]
  cases i with
  | zero =>
    refine br_t rfl ⟨pk_in n 5 hk, ?_⟩
    rw [h8 n hk]
    exact hp
  | succ j =>
    refine br_f (nI_ne0 (by omega) (by omega)) (wk_cellOf h' hk ⟨vp_in_nI (by omega) (by decide), ?_⟩)
    rw [nI_clamp (by omega)]
    have e := h10 n j 0 hk (by omega) (by omega)
    rw [Nat.add_zero] at e
    rw [e]
    rw [wk_ta1] at hp
    exact hp
theorem wk_kind (k : Nat) : ¬ ra_kind k = 4 ∧ ¬ ra_kind k = 5 := by
  unfold ra_kind
  split
  · decide
  · split
    · decide
    · split <;> decide
theorem wk_changedBy {n j : Nat} {p2 : Int32} {post : Int32 → Prop} (h : ra_R P M S u) (hk : n < 5) (hj : j < em_g S (32 + n)) (hp : post p2) : wpX_changedBy post u (nI n) (nI (j + 1)) p2 := by
  have h' := h
  obtain ⟨f1, f2, f3, f4, a1, a2, a3, a4, a5, a6, a7, a8, a9, a10, a11, a12, a13, a14, a15, a16, a17⟩ := u
  obtain ⟨hP, hF, h1, h2, h3, h4, h5, h6, h7, h8, h9, hn, h10, h11, h12, h14, h15, h16, h17⟩ := h
  have l16 := hn n hk
  unfold wpX_changedBy
  dsimp only
  refine wk_cellOf h' hk ?_
  have e := h10 n j 1 hk hj (by omega)
  have e' : ra_e P (em_g S (97 + 16 * n + j)) (em_g S (177 + 16 * n + j)) 1 = ra_kind (em_g S (177 + 16 * n + j)) := rfl
  rw [e'] at e
  rw [nI_1, nI_clamp (by omega), e]
  exact ⟨vp_in_nI (by omega) (by decide), br_f (wk_kind _).1 ⟨vp_in_nI (by omega) (by decide), br_f (wk_kind _).2 hp⟩⟩
theorem wk_members_l {f1 f2 f3 f4 : Int32} {a1 a2 a3 a4 a5 a6 a7 a8 a9 a10 a11 a12 a13 a14 a15 a16 a17 : Nat → Int32} {n : Nat} {post : Int32 → Prop} (h : ra_R P M S (f1, f2, f3, f4, a1, a2, a3, a4, a5, a6, a7, a8, a9, a10, a11, a12, a13, a14, a15, a16, a17)) (hk : n < 5) (hp : post 31) : ∀ f j, em_g S (32 + n) ≤ j + f → j < 1000 → wX_membersFor_22 post (nI n) f1 f2 f3 f4 a1 a2 a3 a4 a5 a6 a7 a8 a9 a10 a11 a12 a13 a14 a15 a16 a17 (f + 1) 31 (nI (j + 1)) := by
  have h' := h
  obtain ⟨hP, hF, h1, h2, h3, h4, h5, h6, h7, h8, h9, hn, h10, h11, h12, h14, h15, h16, h17⟩ := h
  have l16 := hn n hk
  intro f
  induction f with
  | zero =>
    intro j hj hb
    unfold wX_membersFor_22
    exact wk_lastOf h' hk (br_t (nI_lt (by omega) (by omega)) hp)
  | succ f ih =>
    intro j hj hb
    unfold wX_membersFor_22
    exact wk_lastOf h' hk (pk_lt (em_g S (32 + n)) (j + 1) (fun _ => hp) (fun z => wk_changedBy h' hk (by omega) (nm_r (nI_1 _) (ih _ (by omega) (by omega)))))
theorem wk_v14 (v : Nat) (hP : P.1 < 6 ∧ P.2.1 < 4) : ra_v P v 14 = 31 := by
  unfold ra_v
  rw [if_neg (by omega), if_neg (by omega), if_neg (by omega), if_pos rfl]
theorem wk_membersFor {n : Nat} {post : Int32 → Prop} (h : ra_R P M S u) (hk : n < 5) (hp : post 31) : wpX_membersFor post u (nI n) := by
  have h' := h
  obtain ⟨f1, f2, f3, f4, a1, a2, a3, a4, a5, a6, a7, a8, a9, a10, a11, a12, a13, a14, a15, a16, a17⟩ := u
  obtain ⟨hP, hF, h1, h2, h3, h4, h5, h6, h7, h8, h9, hn, h10, h11, h12, h14, h15, h16, h17⟩ := h
  have l16 := hn n hk
  have lc := by_lt S (37 + n)
  have e : 15 * nI n + 14 = nI (15 * n + 14) := by
    rw [wk_15, pk_mul, show (14 : Int32) = nI 14 from rfl, nI_add]
  have e2 := h12 n 14 hk (by omega)
  rw [wk_v14 _ hP] at e2
  unfold wpX_membersFor
  dsimp only
  rw [e, nI_clamp (by omega), nI_clamp (by omega)]
  refine ⟨vp_in_nI (by omega) (by decide), nm_r e2 ⟨pk_in n 5 hk, nm_r (by rw [h11 n hk, nI_1]) ⟨17, wk_members_l h' hk hp 16 _ (by omega) (by omega)⟩⟩⟩
/-! sets of nodes as numbers -/
def wk_mk (f : Nat → Bool) : Nat → Nat
  | 0 => 0
  | k + 1 => wk_mk f k + (if f k = true then 2 ^ k else 0)
theorem wk_mk_lt (f : Nat → Bool) : ∀ k, wk_mk f k < 2 ^ k := by
  intro k
  induction k with
  | zero => exact Nat.one_pos
  | succ k ih =>
    show wk_mk f k + (if f k = true then 2 ^ k else 0) < 2 ^ (k + 1)
    rw [Nat.pow_succ]
    split <;> omega
theorem wk_or1 : ∀ k, k < 5 → ∀ m, m < 16 → m < 2 ^ k → nI m ||| ((1 : Int32) <<< (nI k &&& 31)) = nI (m + 2 ^ k) := by decide +kernel
theorem wk_or0 : ∀ m, m < 32 → nI m ||| 0 = nI m := by decide +kernel
theorem wk_c2 (b : Bool) (x : Nat) : em_c b x 0 = if b = true then x else 0 := by cases b <;> rfl
theorem wk_re (n : Nat) : em_re S n = wk_mk (em_jo S n) 5 := by
  show em_c (em_jo S n 0) 1 0 + (em_c (em_jo S n 1) 2 0 + (em_c (em_jo S n 2) 4 0 + (em_c (em_jo S n 3) 8 0 + em_c (em_jo S n 4) 16 0))) = 0 + (if em_jo S n 0 = true then 1 else 0) + (if em_jo S n 1 = true then 2 else 0) + (if em_jo S n 2 = true then 4 else 0) + (if em_jo S n 3 = true then 8 else 0) + (if em_jo S n 4 = true then 16 else 0)
  rw [wk_c2, wk_c2, wk_c2, wk_c2, wk_c2]
  omega
theorem wk_hv (n j : Nat) : em_hv S n j = wk_mk (fun o => Nat.ble j (em_g S (72 + (5 * n + o)))) 5 := by
  show em_c (Nat.ble j (em_g S (72 + (5 * n + 0)))) 1 0 + (em_c (Nat.ble j (em_g S (72 + (5 * n + 1)))) 2 0 + (em_c (Nat.ble j (em_g S (72 + (5 * n + 2)))) 4 0 + (em_c (Nat.ble j (em_g S (72 + (5 * n + 3)))) 8 0 + em_c (Nat.ble j (em_g S (72 + (5 * n + 4)))) 16 0))) = 0 + (if Nat.ble j (em_g S (72 + (5 * n + 0))) = true then 1 else 0) + (if Nat.ble j (em_g S (72 + (5 * n + 1))) = true then 2 else 0) + (if Nat.ble j (em_g S (72 + (5 * n + 2))) = true then 4 else 0) + (if Nat.ble j (em_g S (72 + (5 * n + 3))) = true then 8 else 0) + (if Nat.ble j (em_g S (72 + (5 * n + 4))) = true then 16 else 0)
  rw [wk_c2, wk_c2, wk_c2, wk_c2, wk_c2]
  omega
theorem wk_areJoined {a b : Nat} {post : Int32 → Prop} (h : ra_R P M S u) (ha : a < 5) (hb : b < 5) (ht : em_jo S a b = true → post 1) (hf : em_jo S a b = false → post 0) : wpX_areJoined post u (nI a) (nI b) := by
  obtain ⟨f1, f2, f3, f4, a1, a2, a3, a4, a5, a6, a7, a8, a9, a10, a11, a12, a13, a14, a15, a16, a17⟩ := u
  obtain ⟨hP, hF, h1, h2, h3, h4, h5, h6, h7, h8, h9, hn, h10, h11, h12, h14, h15, h16, h17⟩ := h
  have E : em_jo S a b = em_a (Nat.ble 1 (em_g S (2 + a))) (em_a (Nat.ble 1 (em_g S (2 + b))) (Nat.beq (em_g S (7 + a)) (em_g S (7 + b)))) := rfl
  rw [E] at ht hf
  have l1 := by_lt S (2 + a)
  have l2 := by_lt S (2 + b)
  have l3 := by_lt S (7 + a)
  have l4 := by_lt S (7 + b)
  unfold wpX_areJoined
  dsimp only
  rw [nI_clamp (show a < 2 ^ 31 by omega), nI_clamp (show b < 2 ^ 31 by omega), h1 a ha, h1 b hb, h2 a ha, h2 b hb]
  refine ⟨pk_in a 5 ha, pk_eq (em_g S (2 + a)) 0 (fun z => hf (by_af.mpr (Or.inl (by_lef.mpr (by omega))))) (fun z1 => ⟨pk_in b 5 hb, pk_eq (em_g S (2 + b)) 0 (fun z => hf (by_af.mpr (Or.inr (by_af.mpr (Or.inl (by_lef.mpr (by omega))))))) (fun z2 => ⟨pk_in a 5 ha, pk_in b 5 hb, ?_⟩)⟩)⟩
  exact pk_eq (em_g S (7 + a)) (em_g S (7 + b)) (fun z => ht (by_a.mpr ⟨by_le.mpr (by omega), by_a.mpr ⟨by_le.mpr (by omega), by_be.mpr z⟩⟩)) (fun z => hf (by_af.mpr (Or.inr (by_af.mpr (Or.inr (by_bef.mpr z))))))
theorem wk_mk_t {f : Nat → Bool} {k : Nat} (h : f k = true) : wk_mk f (k + 1) = wk_mk f k + 2 ^ k := by
  show wk_mk f k + (if f k = true then 2 ^ k else 0) = _
  rw [if_pos h]
theorem wk_mk_f {f : Nat → Bool} {k : Nat} (h : f k = false) : wk_mk f (k + 1) = wk_mk f k := by
  show wk_mk f k + (if f k = true then 2 ^ k else 0) = _
  rw [h]
  rfl
theorem wk_mk_32 {f : Nat → Bool} {k : Nat} (h : k ≤ 5) : wk_mk f k < 32 :=
  Nat.lt_of_lt_of_le (wk_mk_lt f k) (Nat.pow_le_pow_right (n := 2) (by decide) h)
theorem wk_mk_16 {f : Nat → Bool} {k : Nat} (h : k < 5) : wk_mk f k < 16 :=
  Nat.lt_of_lt_of_le (wk_mk_lt f k) (Nat.pow_le_pow_right (n := 2) (by decide) (show k ≤ 4 by omega))
theorem wk_reached_l {f1 f2 f3 f4 : Int32} {a1 a2 a3 a4 a5 a6 a7 a8 a9 a10 a11 a12 a13 a14 a15 a16 a17 : Nat → Int32} {n : Nat} {post : Int32 → Prop} (h : ra_R P M S (f1, f2, f3, f4, a1, a2, a3, a4, a5, a6, a7, a8, a9, a10, a11, a12, a13, a14, a15, a16, a17)) (hk : n < 5) (hp : post (nI (em_re S n))) : ∀ f k, k + f = 5 → wX_reachedBy_4 post (nI n) f1 f2 f3 f4 a1 a2 a3 a4 a5 a6 a7 a8 a9 a10 a11 a12 a13 a14 a15 a16 a17 (f + 1) (nI (wk_mk (em_jo S n) k)) (nI k) := by
  intro f
  induction f with
  | zero =>
    intro k e
    have : k = 5 := by omega
    subst this
    rw [wk_re] at hp
    exact br_t (by decide) hp
  | succ f ih =>
    intro k e
    refine pk_le 5 k (fun z => absurd z (by omega)) (fun z => wk_areJoined h hk z (fun q => br_f (by decide) ?_) (fun q => br_t rfl ?_))
    · have t := ih (k + 1) (by omega)
      rw [wk_mk_t q] at t
      exact nm_r (wk_or1 k z _ (wk_mk_16 z) (wk_mk_lt _ _)) (nm_r (nI_1 k) t)
    · have t := ih (k + 1) (by omega)
      rw [wk_mk_f q] at t
      exact nm_r (wk_or0 _ (wk_mk_32 (by omega))) (nm_r (nI_1 k) t)
theorem wk_reachedBy {n : Nat} {post : Int32 → Prop} (h : ra_R P M S u) (hk : n < 5) (hp : post (nI (em_re S n))) : wpX_reachedBy post u (nI n) := by
  obtain ⟨f1, f2, f3, f4, a1, a2, a3, a4, a5, a6, a7, a8, a9, a10, a11, a12, a13, a14, a15, a16, a17⟩ := u
  exact ⟨6, wk_reached_l h hk hp 5 0 rfl⟩
/-! more than half -/
def wk_on (x : Int32) : Int32 := ((((0 + ((x >>> ((0 : Int32) &&& 31)) &&& 1)) + ((x >>> ((1 : Int32) &&& 31)) &&& 1)) + ((x >>> ((2 : Int32) &&& 31)) &&& 1)) + ((x >>> ((3 : Int32) &&& 31)) &&& 1)) + ((x >>> ((4 : Int32) &&& 31)) &&& 1)
theorem wk_ones {x : Int32} {post : Int32 → Prop} (hp : post (wk_on x)) : wpX_ones post () x := by
  refine ⟨6, br_f (by decide) (nm_e (nm_r (e' := 1) (by decide) (br_f (by decide) (nm_e (nm_r (e' := 2) (by decide) (br_f (by decide) (nm_e (nm_r (e' := 3) (by decide) (br_f (by decide) (nm_e (nm_r (e' := 4) (by decide) (br_f (by decide) (nm_e (nm_r (e' := 5) (by decide) (br_t (by decide) hp)))))))))))))))⟩
theorem wk_mj : ∀ m, m < 32 → (2 * wk_on (nI m) ≤ wk_on 31 ↔ em_mj m = false) := by decide +kernel
theorem wk_isMost {m : Nat} {post : Int32 → Prop} (hm : m < 256) (ht : em_mj (m % 32) = true → post 1) (hf : em_mj (m % 32) = false → post 0) : wpX_isMost post () (nI m) 31 := by
  unfold wpX_isMost
  rw [pk_andN (show m < 2 ^ 32 by omega) 5 (by decide)]
  refine wk_ones (wk_ones ⟨fun z => hf ((wk_mj _ (by omega)).mp z), fun z => ht ?_⟩)
  cases e : em_mj (m % 32) with
  | true => rfl
  | false => exact absurd ((wk_mj _ (by omega)).mpr e) z
theorem wk_isMost5 {m : Nat} {post : Int32 → Prop} (hm : m < 32) (ht : em_mj m = true → post 1) (hf : em_mj m = false → post 0) : wpX_isMost post () (nI m) 31 :=
  wk_isMost (by omega) (fun z => ht (by rw [Nat.mod_eq_of_lt hm] at z; exact z)) (fun z => hf (by rw [Nat.mod_eq_of_lt hm] at z; exact z))
theorem wk_leaderNow {post : Int32 → Prop} (h : ra_R P M S u) (ht : em_le S < 5 → post (nI (em_le S))) (hf : em_le S = 5 → post (-1)) : wpX_leaderNow post u := by
  obtain ⟨f1, f2, f3, f4, a1, a2, a3, a4, a5, a6, a7, a8, a9, a10, a11, a12, a13, a14, a15, a16, a17⟩ := u
  obtain ⟨hP, hF, h1, h2, h3, h4, h5, h6, h7, h8, h9, hn, h10, h11, h12, h14, h15, h16, h17⟩ := h
  have E : em_le S = em_c (Nat.beq (em_g S 12) 1) 0 (em_c (Nat.beq (em_g S 13) 1) 1 (em_c (Nat.beq (em_g S 14) 1) 2 (em_c (Nat.beq (em_g S 15) 1) 3 (em_c (Nat.beq (em_g S 16) 1) 4 5)))) := rfl
  have k0 := h3 0 (by omega)
  have k1 := h3 1 (by omega)
  have k2 := h3 2 (by omega)
  have k3 := h3 3 (by omega)
  have k4 := h3 4 (by omega)
  have l0 := by_lt S 12
  have l1 := by_lt S 13
  have l2 := by_lt S 14
  have l3 := by_lt S 15
  have l4 := by_lt S 16
  rw [E] at ht hf
  refine ⟨6, br_f (by decide) ⟨pk_in 0 5 (by omega), pk_eq (em_g S 12) 1 (fun z => ?_) (fun z0 => nm_r (e' := 1) (by decide) (br_f (by decide) ⟨pk_in 1 5 (by omega), pk_eq (em_g S 13) 1 (fun z => ?_) (fun z1 => nm_r (e' := 2) (by decide) (br_f (by decide) ⟨pk_in 2 5 (by omega), pk_eq (em_g S 14) 1 (fun z => ?_) (fun z2 => nm_r (e' := 3) (by decide) (br_f (by decide) ⟨pk_in 3 5 (by omega), pk_eq (em_g S 15) 1 (fun z => ?_) (fun z3 => nm_r (e' := 4) (by decide) (br_f (by decide) ⟨pk_in 4 5 (by omega), pk_eq (em_g S 16) 1 (fun z => ?_) (fun z4 => nm_r (e' := 5) (by decide) (br_t (by decide) ?_)) k4⟩)) k3⟩)) k2⟩)) k1⟩)) k0⟩⟩
  · rw [by_ct (by_be.mpr z)] at ht
    exact ht (by decide)
  · rw [by_cf (by_bef.mpr z0), by_ct (by_be.mpr z)] at ht
    exact ht (by decide)
  · rw [by_cf (by_bef.mpr z0), by_cf (by_bef.mpr z1), by_ct (by_be.mpr z)] at ht
    exact ht (by decide)
  · rw [by_cf (by_bef.mpr z0), by_cf (by_bef.mpr z1), by_cf (by_bef.mpr z2), by_ct (by_be.mpr z)] at ht
    exact ht (by decide)
  · rw [by_cf (by_bef.mpr z0), by_cf (by_bef.mpr z1), by_cf (by_bef.mpr z2), by_cf (by_bef.mpr z3), by_ct (by_be.mpr z)] at ht
    exact ht (by decide)
  · rw [by_cf (by_bef.mpr z0), by_cf (by_bef.mpr z1), by_cf (by_bef.mpr z2), by_cf (by_bef.mpr z3), by_cf (by_bef.mpr z4)] at hf
    exact hf rfl
end
end
section
/-! ===== terms, messages, what counts ===== -/
section
variable {P : ra_P} {M S : Nat} {u : St2}
theorem wk_enterTerm {n t : Nat} {post : St2 → Prop} (h : ra_R P M S u) (hk : n < 5) (ht : t < 256) (hp : ∀ u', ra_R P M (em_et S n t) u' → post u') : wpX_enterTerm post u (nI n) (nI t) := by
  have h' := h
  obtain ⟨f1, f2, f3, f4, a1, a2, a3, a4, a5, a6, a7, a8, a9, a10, a11, a12, a13, a14, a15, a16, a17⟩ := u
  obtain ⟨hP, hF, h1, h2, h3, h4, h5, h6, h7, h8, h9, hn, h10, h11, h12, h14, h15, h16, h17⟩ := h
  have E : em_et S n t = em_c (Nat.ble t (em_g S (17 + n))) S (em_s (em_s (em_s S (17 + n) t) (22 + n) 0) (12 + n) 0) := rfl
  rw [E] at hp
  have l := by_lt S (17 + n)
  unfold wpX_enterTerm
  dsimp only
  rw [nI_clamp (show n < 2 ^ 31 by omega), h4 n hk]
  refine ⟨pk_in n 5 hk, pk_le t (em_g S (17 + n)) (fun z => ?_) (fun z => ⟨pk_in n 5 hk, nm_e ⟨pk_in n 5 hk, nm_e ⟨pk_in n 5 hk, nm_e ?_⟩⟩⟩)⟩
  · rw [by_ct (by_le.mpr z)] at hp
    exact hp _ h'
  · rw [by_cf (by_lef.mpr z)] at hp
    exact hp _ (ra_u3 (ra_u5 (ra_u4 h' hk ht) hk (by decide)) hk (by decide))
/-- eight places in a row -/
theorem wk_u8 (a : Nat → Int32) (k : Nat) (v0 v1 v2 v3 v4 v5 v6 v7 : Int32) :
    (fun b : Nat → Int32 => b k = v0 ∧ b (k + 1) = v1 ∧ b (k + 2) = v2 ∧ b (k + 3) = v3 ∧ b (k + 4) = v4 ∧ b (k + 5) = v5 ∧ b (k + 6) = v6 ∧ b (k + 7) = v7 ∧ ∀ j, (j < k ∨ k + 8 ≤ j) → b j = a j)
      (upd (upd (upd (upd (upd (upd (upd (upd a k v0) (k + 1) v1) (k + 2) v2) (k + 3) v3) (k + 4) v4) (k + 5) v5) (k + 6) v6) (k + 7) v7) := by
  refine ⟨?_, ?_, ?_, ?_, ?_, ?_, ?_, ?_, ?_⟩
  · rw [pk_un (by omega), pk_un (by omega), pk_un (by omega), pk_un (by omega), pk_un (by omega), pk_un (by omega), pk_un (by omega), pk_us]
  · rw [pk_un (by omega), pk_un (by omega), pk_un (by omega), pk_un (by omega), pk_un (by omega), pk_un (by omega), pk_us]
  · rw [pk_un (by omega), pk_un (by omega), pk_un (by omega), pk_un (by omega), pk_un (by omega), pk_us]
  · rw [pk_un (by omega), pk_un (by omega), pk_un (by omega), pk_un (by omega), pk_us]
  · rw [pk_un (by omega), pk_un (by omega), pk_un (by omega), pk_us]
  · rw [pk_un (by omega), pk_un (by omega), pk_us]
  · rw [pk_un (by omega), pk_us]
  · rw [pk_us]
  · intro j hj
    rw [pk_un (by omega), pk_un (by omega), pk_un (by omega), pk_un (by omega), pk_un (by omega), pk_un (by omega), pk_un (by omega), pk_un (by omega)]
theorem wk_post_36 {f1 f2 f3 f4 : Int32} {a1 a2 a3 a4 a5 a6 a7 a8 a9 a10 a11 a12 a13 a14 a15 a16 a17 : Nat → Int32} {p w so fr to x y z : Nat} {post : Int32 → St2 → Prop} (h : ra_R P M S (f1, f2, f3, f4, a1, a2, a3, a4, a5, a6, a7, a8, a9, a10, a11, a12, a13, a14, a15, a16, a17)) (hp64 : p < 64) (hw : w < 64) (hso : so < 256) (hfr : fr < 5) (hto : to < 5) (hx : x < 256) (hy : y < 256) (hz : z < 256)
    (hp : ∀ u', ra_R P M (em_s (em_wb S p (em_m7 so fr to (em_g S (17 + fr)) x y z)) 1 (w + 1)) u' → post (nI (16 * p)) u') : wX_post_36 post (nI so) (nI fr) (nI to) (nI x) (nI y) (nI z) (nI (16 * p)) f1 (nI (w + 1)) f3 f4 a1 a2 a3 a4 a5 a6 a7 a8 a9 a10 a11 a12 a13 a14 a15 a16 a17 := by
  have h' := h
  obtain ⟨hP, hF, h1, h2, h3, h4, h5, h6, h7, h8, h9, hn, h10, h11, h12, h14, h15, h16, h17⟩ := h
  have lt := by_lt S (17 + fr)
  unfold wX_post_36
  rw [nI_clamp (show fr < 2 ^ 31 by omega), nI_clamp (show 16 * p < 2 ^ 31 by omega), h4 fr hfr, show (2 : Int32) = nI 2 from rfl, show (3 : Int32) = nI 3 from rfl, show (4 : Int32) = nI 4 from rfl, show (5 : Int32) = nI 5 from rfl, show (6 : Int32) = nI 6 from rfl, show (7 : Int32) = nI 7 from rfl, nI_1, nI_add, nI_add, nI_add, nI_add, nI_add, nI_add,
    nI_clamp (show 16 * p + 1 < 2 ^ 31 by omega), nI_clamp (show 16 * p + 2 < 2 ^ 31 by omega), nI_clamp (show 16 * p + 3 < 2 ^ 31 by omega), nI_clamp (show 16 * p + 4 < 2 ^ 31 by omega), nI_clamp (show 16 * p + 5 < 2 ^ 31 by omega), nI_clamp (show 16 * p + 6 < 2 ^ 31 by omega), nI_clamp (show 16 * p + 7 < 2 ^ 31 by omega)]
  refine ⟨vp_in_nI (by omega) (by decide), nm_e ⟨vp_in_nI (by omega) (by decide), nm_e ⟨vp_in_nI (by omega) (by decide), nm_e ⟨pk_in fr 5 hfr, vp_in_nI (by omega) (by decide), nm_e ⟨vp_in_nI (by omega) (by decide), nm_e ⟨vp_in_nI (by omega) (by decide), nm_e ⟨vp_in_nI (by omega) (by decide), nm_e ⟨vp_in_nI (by omega) (by decide), nm_e ?_⟩⟩⟩⟩⟩⟩⟩⟩
  obtain ⟨m0, m1, m2, m3, m4, m5, m6, m7, m8⟩ := by_m7 hso (show fr < 256 by omega) (show to < 256 by omega) lt hx hy hz
  have U := wk_u8 a16 (16 * p) (nI so) (nI fr) (nI to) (nI (em_g S (17 + fr))) (nI x) (nI y) (nI z) 0
  dsimp only at U
  obtain ⟨u0, u1, u2, u3, u4, u5, u6, u7, u8⟩ := U
  refine hp _ (ra_upo h' hp64 hw hso hfr hto lt hx hy hz ?_ (fun j _ hj => u8 j (by omega)))
  intro c hc
  match c, hc with
  | 0, _ => rw [m1]; exact u0
  | 1, _ => rw [m2]; exact u1
  | 2, _ => rw [m3]; exact u2
  | 3, _ => rw [m4]; exact u3
  | 4, _ => rw [m5]; exact u4
  | 5, _ => rw [m6]; exact u5
  | 6, _ => rw [m7]; exact u6
  | 7, _ => rw [m8]; exact u7
theorem wk_poE {so fr to x y z : Nat} (h0 : em_po S so fr to x y z ≠ 0) : em_g S 1 < 64 ∧ em_po S so fr to x y z = em_s (em_wb S ((em_g S 0 + em_g S 1) % 64) (em_m7 so fr to (em_g S (17 + fr)) x y z)) 1 (em_g S 1 + 1) := by
  have E : em_po S so fr to x y z = em_c (Nat.ble 64 (em_g S 1)) 0 (em_s (em_wb S ((em_g S 0 + em_g S 1) % 64) (em_m7 so fr to (em_g S (17 + fr)) x y z)) 1 (em_g S 1 + 1)) := rfl
  cases e : Nat.ble 64 (em_g S 1) with
  | true => rw [E, by_ct e] at h0; exact absurd rfl h0
  | false => rw [E, by_cf e]; exact ⟨by_lef.mp e, rfl⟩
theorem wk_post {so fr to x y z : Nat} {post : Int32 → St2 → Prop} (h : ra_R P M S u) (h0 : em_po S so fr to x y z ≠ 0) (hso : so < 256) (hfr : fr < 5) (hto : to < 5) (hx : x < 256) (hy : y < 256) (hz : z < 256)
    (hp : ∀ u', ra_R P M (em_po S so fr to x y z) u' → post (nI (16 * ((em_g S 0 + em_g S 1) % 64))) u') : wpX_post post u (nI so) (nI fr) (nI to) (nI x) (nI y) (nI z) := by
  have h' := h
  obtain ⟨hw, E⟩ := wk_poE h0
  rw [E] at hp
  obtain ⟨f1, f2, f3, f4, a1, a2, a3, a4, a5, a6, a7, a8, a9, a10, a11, a12, a13, a14, a15, a16, a17⟩ := u
  obtain ⟨hP, hF, h1, h2, h3, h4, h5, h6, h7, h8, h9, hn, h10, h11, h12, h14, h15, h16, h17⟩ := h
  obtain ⟨e1, e2, e3, e4, e5, e6⟩ := hF
  unfold wpX_post
  dsimp only
  have e7 : 16 * ((f1 + f2) - (f1 + f2) / 64 * 64) = nI (16 * ((em_g S 0 + em_g S 1) % 64)) := by
    rw [e1, e3, nI_add, show (64 : Int32) = nI 64 from rfl, pk_rem (by omega) (by omega) (by omega), wk_16, pk_mul]
  refine ⟨by decide, nm_r e7 (br_f ?_ (nm_r (show f2 + 1 = nI (em_g S 1 + 1) by rw [e3, nI_1]) (wk_post_36 h' (by omega) hw hso hfr hto hx hy hz hp)))⟩
  rw [e3]
  exact nI_ge (b := 64) hw (by decide)
end
end
section
/-! ===== carrying out ===== -/
section
variable {P : ra_P} {M S : Nat} {u : St2}
theorem wk_vval {v k c : Nat} (h1 : c ≠ P.1) (h2 : c ≠ 6 + P.2.1) (h3 : c ≠ 10 + P.2.1) : ra_v P v c = ra_v P k c := by
  unfold ra_v
  rw [if_neg h1, if_neg h2, if_neg h3, if_neg h1, if_neg h2, if_neg h3]
theorem wk_v1 {v : Nat} : ra_v P v P.1 = ra_val P v := by
  unfold ra_v
  rw [if_pos rfl]
theorem wk_v2 {v : Nat} (hP : P.1 < 6 ∧ P.2.1 < 4) : ra_v P v (6 + P.2.1) = nI v := by
  unfold ra_v
  rw [if_neg (by omega), if_pos rfl]
theorem wk_v3 {v : Nat} (hP : P.1 < 6 ∧ P.2.1 < 4) : ra_v P v (10 + P.2.1) = ra_ans P v := by
  unfold ra_v
  rw [if_neg (by omega), if_neg (by omega), if_pos rfl]
theorem wk_carry_181 {f1 f2 f3 f4 : Int32} {a1 a2 a3 a4 a5 a6 a7 a8 a9 a10 a11 a12 a13 a14 a15 a16 a17 : Nat → Int32} {n j k : Nat} {z0 x7 : Int32} {post : St2 → Prop} (h : ra_R P M S (f1, f2, f3, f4, a1, a2, a3, a4, a5, a6, a7, a8, a9, a10, a11, a12, a13, a14, a15, a16, a17)) (hk : n < 5) (hj : j < em_g S (32 + n)) (hc : k = em_g S (177 + 16 * n + j)) (hz : z0 = ra_val P k) (hx : x7 = ra_ans P k)
    (hp : ∀ u', ra_R P M (em_s S (42 + n) k) u' → post u') : wX_carryOut_181 post (nI (7 * (16 * n + j))) (nI (15 * n)) (nI P.2.1) x7 z0 (nI (15 * n + P.1)) f1 f2 f3 f4 a1 a2 a3 a4 a5 a6 a7 a8 a9 a10 a11 a12 a13 a14 a15 a16 a17 := by
  have h' := h
  obtain ⟨hP, hF, h1, h2, h3, h4, h5, h6, h7, h8, h9, hn, h10, h11, h12, h14, h15, h16, h17⟩ := h
  have l16 := hn n hk
  have lk : k < 256 := by rw [hc]; exact by_lt _ _
  have e4 := h10 n j 4 hk hj (by omega)
  have e4' : ra_e P (em_g S (97 + 16 * n + j)) (em_g S (177 + 16 * n + j)) 4 = nI (em_g S (177 + 16 * n + j)) := rfl
  rw [e4', ← hc] at e4
  unfold wX_carryOut_181
  rw [show (4 : Int32) = nI 4 from rfl, show (6 : Int32) = nI 6 from rfl, show (10 : Int32) = nI 10 from rfl, nI_add, nI_add, nI_add, nI_add, nI_add,
    nI_clamp (show 15 * n + P.1 < 2 ^ 31 by omega), nI_clamp (show 7 * (16 * n + j) + 4 < 2 ^ 31 by omega), nI_clamp (show 15 * n + 6 + P.2.1 < 2 ^ 31 by omega), nI_clamp (show 15 * n + 10 + P.2.1 < 2 ^ 31 by omega), e4]
  refine ⟨vp_in_nI (by omega) (by decide), nm_e ⟨vp_in_nI (by omega) (by decide), vp_in_nI (by omega) (by decide), nm_e ⟨vp_in_nI (by omega) (by decide), nm_e (hp _ (ra_u12 h' hk lk ?_ ?_))⟩⟩⟩
  · intro c hc15
    by_cases c1 : c = P.1
    · rw [c1, pk_un (by omega), pk_un (by omega), pk_us, wk_v1, hz]
    · by_cases c2 : c = 6 + P.2.1
      · rw [c2, pk_un (by omega), show 15 * n + (6 + P.2.1) = 15 * n + 6 + P.2.1 by omega, pk_us, wk_v2 hP]
      · by_cases c3 : c = 10 + P.2.1
        · rw [c3, show 15 * n + (10 + P.2.1) = 15 * n + 10 + P.2.1 by omega, pk_us, wk_v3 hP, hx]
        · rw [pk_un (by omega), pk_un (by omega), pk_un (by omega), h12 n c hk hc15]
          exact wk_vval c1 c2 c3
  · intro m c hm hne hc15
    rw [pk_un (by omega), pk_un (by omega), pk_un (by omega)]
theorem wk_kind0 {k : Nat} (h : k ≠ 0) : ¬ ra_kind k = 3 := by
  unfold ra_kind
  rw [if_neg h]
  split
  · decide
  · split <;> decide
theorem wk_carryOut {n j k : Nat} {post : St2 → Prop} (h : ra_R P M S u) (hk : n < 5) (hj : j < em_g S (32 + n)) (hc : k = em_g S (177 + 16 * n + j)) (hv : k = 0 ∨ (k = em_g S (42 + n) + 1 ∧ k ≤ 4))
    (hp0 : k = 0 → post u) (hp1 : k ≠ 0 → ∀ u', ra_R P M (em_s S (42 + n) k) u' → post u') : wpX_carryOut post u (nI n) (nI (7 * (16 * n + j))) := by
  have h' := h
  obtain ⟨f1, f2, f3, f4, a1, a2, a3, a4, a5, a6, a7, a8, a9, a10, a11, a12, a13, a14, a15, a16, a17⟩ := u
  obtain ⟨hP, hF, h1, h2, h3, h4, h5, h6, h7, h8, h9, hn, h10, h11, h12, h14, h15, h16, h17⟩ := h
  have l16 := hn n hk
  have lk : k < 256 := by rw [hc]; exact by_lt _ _
  have e1 : a10 (7 * (16 * n + j) + 1) = ra_kind k := by rw [h10 n j 1 hk hj (by omega), hc]; rfl
  unfold wpX_carryOut
  dsimp only
  rw [nI_1, nI_clamp (show 7 * (16 * n + j) + 1 < 2 ^ 31 by omega), wk_15, pk_mul]
  refine ⟨vp_in_nI (by omega) (by decide), nm_r e1 (nm_e (br_f (wk_kind k).1 (br_f (wk_kind k).2 ?_)))⟩
  by_cases k0 : k = 0
  · exact br_t (by rw [k0]; rfl) (hp0 k0)
  · obtain ⟨kv, k4⟩ : k = em_g S (42 + n) + 1 ∧ k ≤ 4 := by
      rcases hv with hv | hv
      · exact absurd hv k0
      · exact hv
    have hp := hp1 k0
    have e2 : a10 (7 * (16 * n + j) + 2) = nI P.2.1 := by rw [h10 n j 2 hk hj (by omega), ← hc]; unfold ra_e; rw [if_neg (by decide), if_neg (by decide), if_pos rfl, if_neg k0]
    have e3 : a10 (7 * (16 * n + j) + 3) = nI P.1 := by rw [h10 n j 3 hk hj (by omega), ← hc]; unfold ra_e; rw [if_neg (by decide), if_neg (by decide), if_neg (by decide), if_pos rfl, if_neg k0]
    have e5 : a10 (7 * (16 * n + j) + 5) = ra_ea P k := by rw [h10 n j 5 hk hj (by omega), ← hc]; rfl
    have e6 : a10 (7 * (16 * n + j) + 6) = ra_eb k := by rw [h10 n j 6 hk hj (by omega), ← hc]; rfl
    have ev : a12 (15 * n + P.1) = ra_val P (em_g S (42 + n)) := by rw [h12 n P.1 hk (by omega), wk_v1]
    rw [show (2 : Int32) = nI 2 from rfl, show (3 : Int32) = nI 3 from rfl, show (5 : Int32) = nI 5 from rfl, show (6 : Int32) = nI 6 from rfl, nI_add, nI_add, nI_add, nI_add,
      nI_clamp (show 7 * (16 * n + j) + 2 < 2 ^ 31 by omega), nI_clamp (show 7 * (16 * n + j) + 3 < 2 ^ 31 by omega), nI_clamp (show 7 * (16 * n + j) + 5 < 2 ^ 31 by omega), nI_clamp (show 7 * (16 * n + j) + 6 < 2 ^ 31 by omega), e2, e3, e5, e6, nI_add]
    refine br_f (wk_kind0 k0) ⟨vp_in_nI (by omega) (by decide), nm_e ⟨vp_in_nI (by omega) (by decide), nm_e ⟨vp_in_nI (by omega) (by decide), nm_r (e' := ra_val P (em_g S (42 + n))) (by rw [nI_clamp (show 15 * n + P.1 < 2 ^ 31 by omega)]; exact ev) ⟨vp_in_nI (by omega) (by decide), nm_e ?_⟩⟩⟩⟩
    have kk : k = 1 ∨ k = 2 ∨ k = 3 ∨ k = 4 := by omega
    have X : ra_val P (em_g S (42 + n)) = ra_ans P k := by
      unfold ra_ans
      rw [if_neg k0, show k - 1 = em_g S (42 + n) by omega]
    rcases kk with e | e | e | e
    · refine br_t (by rw [e]; rfl) (wk_carry_181 h' hk hj hc ?_ X hp)
      rw [e]; rfl
    · refine br_f (by rw [e]; decide) (br_t (by rw [e]; rfl) (wk_carry_181 h' hk hj hc ?_ X hp))
      rw [show em_g S (42 + n) = 1 by omega, e]; rfl
    · refine br_f (by rw [e]; decide) (br_f (by rw [e]; decide) (br_t ?_ ⟨vp_in_nI (by omega) (by decide), wk_carry_181 h' hk hj hc ?_ X hp⟩))
      · rw [show em_g S (42 + n) = 2 by omega, e]; rfl
      · rw [e]; rfl
    · refine br_f (by rw [e]; decide) (br_f (by rw [e]; decide) (br_f ?_ (wk_carry_181 h' hk hj hc ?_ X hp)))
      · rw [show em_g S (42 + n) = 3 by omega, e]; exact (show ¬ (77 : Int32) = 78 by decide)
      · rw [show em_g S (42 + n) = 3 by omega, e]; rfl
theorem wk_cyE {n j : Nat} (h0 : em_cy S n (j + 1) ≠ 0) :
    (em_g S (177 + 16 * n + j) = 0 ∧ em_cy S n (j + 1) = em_s S (37 + n) (j + 1)) ∨
    (em_g S (177 + 16 * n + j) ≠ 0 ∧ em_g S (177 + 16 * n + j) = em_g S (42 + n) + 1 ∧ em_g S (177 + 16 * n + j) ≤ 4 ∧ em_cy S n (j + 1) = em_s (em_s S (37 + n) (j + 1)) (42 + n) (em_g S (177 + 16 * n + j))) := by
  have E : em_cy S n (j + 1) = em_f (em_g S (176 + (16 * n + (j + 1)))) (fun c => em_c (Nat.beq c 0) (em_s S (37 + n) (j + 1)) (em_c (em_a (Nat.beq c (em_g S (42 + n) + 1)) (Nat.ble c 4)) (em_s (em_s S (37 + n) (j + 1)) (42 + n) c) 0)) := rfl
  rw [by_f, show 176 + (16 * n + (j + 1)) = 177 + 16 * n + j by omega] at E
  cases e : Nat.beq (em_g S (177 + 16 * n + j)) 0 with
  | true => exact Or.inl ⟨by_be.mp e, by rw [E, by_ct e]⟩
  | false =>
    rw [by_cf e] at E
    cases e2 : em_a (Nat.beq (em_g S (177 + 16 * n + j)) (em_g S (42 + n) + 1)) (Nat.ble (em_g S (177 + 16 * n + j)) 4) with
    | true => exact Or.inr ⟨by_bef.mp e, by_be.mp (by_a.mp e2).1, by_le.mp (by_a.mp e2).2, by rw [E, by_ct e2]⟩
    | false => rw [E, by_cf e2] at h0; exact absurd rfl h0
theorem wk_ctE (n i f : Nat) : em_ct n i (f + 1) S = em_c (em_a (Nat.ble (em_g S (37 + n) + 1) i) (Nat.ble (em_g S (37 + n) + 1) (em_g S (32 + n)))) (em_b (em_cy S n (em_g S (37 + n) + 1)) (em_ct n i f)) S := rfl
end
section
variable {P : ra_P} {M : Nat}
theorem wk_countTo_l {n i : Nat} {post : St2 → Prop} (hk : n < 5) (hi : i < 1000) : ∀ (f S : Nat) {f1 f2 f3 f4 : Int32} {a1 a2 a3 a4 a5 a6 a7 a8 a9 a10 a11 a12 a13 a14 a15 a16 a17 : Nat → Int32}, ra_R P M S (f1, f2, f3, f4, a1, a2, a3, a4, a5, a6, a7, a8, a9, a10, a11, a12, a13, a14, a15, a16, a17) → em_ct n i f S ≠ 0 → (∀ u', ra_R P M (em_ct n i f S) u' → post u') → wX_countTo_0 post (nI n) (nI i) f f1 f2 f3 f4 a1 a2 a3 a4 a5 a6 a7 a8 a9 a10 a11 a12 a13 a14 a15 a16 a17 := by
  intro f
  induction f with
  | zero =>
    intro S f1 f2 f3 f4 a1 a2 a3 a4 a5 a6 a7 a8 a9 a10 a11 a12 a13 a14 a15 a16 a17 h h0 hp
    exact absurd rfl h0
  | succ f ih =>
    intro S f1 f2 f3 f4 a1 a2 a3 a4 a5 a6 a7 a8 a9 a10 a11 a12 a13 a14 a15 a16 a17 h h0 hp
    have h' := h
    obtain ⟨hP, hF, h1, h2, h3, h4, h5, h6, h7, h8, h9, hn, h10, h11, h12, h14, h15, h16, h17⟩ := h
    have l16 := hn n hk
    have lc := by_lt S (37 + n)
    rw [wk_ctE] at h0 hp
    show vp_in (nI n) 5 ∧ _
    rw [nI_clamp (show n < 2 ^ 31 by omega), h11 n hk]
    refine ⟨pk_in n 5 hk, pk_le i (em_g S (37 + n)) (fun z => ?_) (fun z => ⟨pk_in n 5 hk, wk_lastOf h' hk (pk_le (em_g S (32 + n)) (em_g S (37 + n)) (fun z2 => ?_) (fun z2 => ⟨pk_in n 5 hk, pk_in n 5 hk, ?_⟩))⟩)⟩
    · rw [by_cf (by_af.mpr (Or.inl (by_lef.mpr (by omega))))] at hp
      exact hp _ h'
    · rw [by_cf (by_af.mpr (Or.inr (by_lef.mpr (by omega))))] at hp
      exact hp _ h'
    · rw [by_ct (by_a.mpr ⟨by_le.mpr (by omega), by_le.mpr (by omega)⟩)] at h0 hp
      obtain ⟨b1, b2, b3⟩ := by_b h0
      rw [b3] at hp
      have v1 : em_g S (37 + n) + 1 < 256 := by omega
      have g1 := ra_u11 h' hk v1
      refine nm_r (by rw [nI_1]) ⟨pk_in n 5 hk, ?_⟩
      rw [pk_us]
      refine wk_cellOf g1 hk ?_
      rcases wk_cyE b1 with ⟨c1, c2⟩ | ⟨c1, c2, c3, c4⟩
      · refine wk_carryOut g1 hk (by rw [by_ne v1 (by omega)]; omega) rfl (Or.inl (by rw [by_ne v1 (by omega)]; exact c1)) (fun _ => ?_) (fun z3 => absurd (by rw [by_ne v1 (by omega)]; exact c1) z3)
        rw [c2] at b2 hp
        exact ih _ g1 b2 hp
      · refine wk_carryOut g1 hk (by rw [by_ne v1 (by omega)]; omega) (k := em_g S (177 + 16 * n + em_g S (37 + n))) (by rw [by_ne v1 (by omega)]) (Or.inr ⟨by rw [by_ne v1 (by omega)]; exact c2, c3⟩) (fun z3 => absurd z3 c1) (fun _ u' hu => ?_)
        obtain ⟨g1, g2, g3, g4, b1, b2', b3', b4, b5, b6, b7, b8, b9, b10, b11, b12, b13, b14, b15, b16, b17⟩ := u'
        rw [c4] at b2 hp
        exact ih _ hu b2 hp
theorem wk_countTo {S n i : Nat} {u : St2} {post : St2 → Prop} (h : ra_R P M S u) (hk : n < 5) (hi : i < 1000) (h0 : em_ct n i 20 S ≠ 0) (hp : ∀ u', ra_R P M (em_ct n i 20 S) u' → post u') : wpX_countTo post u (nI n) (nI i) := by
  obtain ⟨f1, f2, f3, f4, a1, a2, a3, a4, a5, a6, a7, a8, a9, a10, a11, a12, a13, a14, a15, a16, a17⟩ := u
  exact ⟨20, wk_countTo_l hk hi 20 S h h0 hp⟩
theorem wk_ct_k {n i j : Nat} (hk : n < 5) (hj : j ≠ 37 + n ∧ j ≠ 42 + n) : ∀ f S, ra_n S → em_ct n i f S ≠ 0 → em_g (em_ct n i f S) j = em_g S j := by
  intro f
  induction f with
  | zero => intro S _ h0; exact absurd rfl h0
  | succ f ih =>
    intro S hS h0
    have l16 := hS n hk
    rw [wk_ctE] at h0 ⊢
    cases e : em_a (Nat.ble (em_g S (37 + n) + 1) i) (Nat.ble (em_g S (37 + n) + 1) (em_g S (32 + n))) with
    | false => rw [by_cf rfl]
    | true =>
      have e2 := by_le.mp (by_a.mp e).2
      have v1 : em_g S (37 + n) + 1 < 256 := by omega
      rw [e, by_ct rfl] at h0
      rw [by_ct rfl]
      obtain ⟨b1, b2, b3⟩ := by_b h0
      rw [b3]
      rcases wk_cyE b1 with ⟨c1, c2⟩ | ⟨c1, c2, c3, c4⟩
      · have hS1 : ra_n (em_cy S n (em_g S (37 + n) + 1)) := by
          rw [c2]; exact ra_n_k hS (fun k z => by_ne v1 (by omega))
        rw [ih _ hS1 b2, c2, by_ne v1 hj.1]
      · have v2 : em_g S (177 + 16 * n + em_g S (37 + n)) < 256 := by_lt _ _
        have hS1 : ra_n (em_cy S n (em_g S (37 + n) + 1)) := by
          rw [c4]; exact ra_n_k hS (fun k z => (by_ne v2 (by omega)).trans (by_ne v1 (by omega)))
        rw [ih _ hS1 b2, c4, by_ne v2 hj.2, by_ne v1 hj.1]
end
end
section
/-! ===== what most members have; sending ===== -/
section
variable {P : ra_P} {M S : Nat} {u : St2}
theorem wk_5k {n o : Nat} : 5 * nI n + nI o = nI (5 * n + o) := by
  rw [wk_5, pk_mul, nI_add]
theorem wk_csE (n j : Nat) : em_cs S n j = em_c (em_a (Nat.beq (em_ta S n j) (em_g S (17 + n))) (em_mj (em_hv S n j))) (em_ct n j 20 S) S := rfl
theorem wk_cm28 {f1 f2 f3 f4 : Int32} {a1 a2 a3 a4 a5 a6 a7 a8 a9 a10 a11 a12 a13 a14 a15 a16 a17 : Nat → Int32} {n j : Nat} {post : St2 → Prop} {J : Int32 → Int32 → Int32 → Int32 → Int32 → (Nat → Int32) → (Nat → Int32) → (Nat → Int32) → (Nat → Int32) → (Nat → Int32) → (Nat → Int32) → (Nat → Int32) → (Nat → Int32) → (Nat → Int32) → (Nat → Int32) → (Nat → Int32) → (Nat → Int32) → (Nat → Int32) → (Nat → Int32) → (Nat → Int32) → (Nat → Int32) → (Nat → Int32) → Prop} (h : ra_R P M S (f1, f2, f3, f4, a1, a2, a3, a4, a5, a6, a7, a8, a9, a10, a11, a12, a13, a14, a15, a16, a17)) (hk : n < 5) (hj : j + 1 ≤ em_g S (32 + n)) (h0 : em_cs S n (j + 1) ≠ 0)
    (hJ : ∀ {f1 f2 f3 f4 : Int32} {a1 a2 a3 a4 a5 a6 a7 a8 a9 a10 a11 a12 a13 a14 a15 a16 a17 : Nat → Int32}, ra_R P M (em_cs S n (j + 1)) (f1, f2, f3, f4, a1, a2, a3, a4, a5, a6, a7, a8, a9, a10, a11, a12, a13, a14, a15, a16, a17) → J (nI j) f1 f2 f3 f4 a1 a2 a3 a4 a5 a6 a7 a8 a9 a10 a11 a12 a13 a14 a15 a16 a17) : ∀ f k, k + f = 5 → wX_countMost_28 post J (nI n) 31 (nI (j + 1)) f1 f2 f3 f4 a1 a2 a3 a4 a5 a6 a7 a8 a9 a10 a11 a12 a13 a14 a15 a16 a17 (f + 1) (nI (wk_mk (fun o => Nat.ble (j + 1) (em_g S (72 + (5 * n + o)))) k)) (nI k) := by
  have h' := h
  obtain ⟨hP, hF, h1, h2, h3, h4, h5, h6, h7, h8, h9, hn, h10, h11, h12, h14, h15, h16, h17⟩ := h
  have l16 := hn n hk
  have lt := by_lt S (17 + n)
  have la := wk_ta_lt (S := S) n (j + 1)
  rw [wk_csE, wk_hv] at h0 hJ
  intro f
  induction f with
  | zero =>
    intro k e
    have : k = 5 := by omega
    subst this
    refine br_t (by decide) (wk_termAt h' hk hj ⟨pk_in n 5 hk, ?_⟩)
    rw [nI_clamp (show n < 2 ^ 31 by omega), h4 n hk]
    refine pk_eq (em_ta S n (j + 1)) (em_g S (17 + n)) (fun z => wk_isMost5 (wk_mk_32 (by omega)) (fun q => br_f (by decide) ?_) (fun q => br_t rfl (nm_r (pk_m1 j) ?_))) (fun z => nm_r (pk_m1 j) ?_)
    · rw [by_ct (by_a.mpr ⟨by_be.mpr z, q⟩)] at h0 hJ
      refine wk_countTo h' hk (by omega) h0 (fun u' hu => ?_)
      obtain ⟨f1, f2, f3, f4, a1, a2, a3, a4, a5, a6, a7, a8, a9, a10, a11, a12, a13, a14, a15, a16, a17⟩ := u'
      exact nm_r (pk_m1 j) (hJ hu)
    · rw [by_cf (by_af.mpr (Or.inr q))] at h0 hJ
      exact hJ h'
    · rw [by_cf (by_af.mpr (Or.inl (by_bef.mpr z)))] at h0 hJ
      exact hJ h'
  | succ f ih =>
    intro k e
    have t := ih (k + 1) (by omega)
    have l72 := by_lt S (72 + (5 * n + k))
    refine pk_le 5 k (fun z => absurd z (by omega)) (fun z => ?_)
    rw [wk_5k, nI_clamp (show 5 * n + k < 2 ^ 31 by omega), h15 (5 * n + k) (by omega)]
    refine ⟨vp_in_nI (by omega) (by decide), pk_lt (em_g S (72 + (5 * n + k))) (j + 1) (fun q => ?_) (fun q => ?_)⟩
    · rw [wk_mk_f (f := fun o => Nat.ble (j + 1) (em_g S (72 + (5 * n + o)))) (k := k) (by_lef.mpr q)] at t
      exact nm_r (wk_or0 _ (wk_mk_32 (by omega))) (nm_r (nI_1 k) t)
    · rw [wk_mk_t (f := fun o => Nat.ble (j + 1) (em_g S (72 + (5 * n + o)))) (k := k) (by_le.mpr q)] at t
      exact nm_r (wk_or1 k z _ (wk_mk_16 z) (wk_mk_lt _ _)) (nm_r (nI_1 k) t)
theorem wk_clE (n j : Nat) : em_cl n (j + 1) S = em_c (Nat.ble (j + 1) (em_g S (37 + n))) S (em_b (em_cs S n (j + 1)) (em_cl n j)) := rfl
theorem wk_cs_en {n j : Nat} (hk : n < 5) (hS : ra_n S) (h0 : em_cs S n j ≠ 0) : em_g (em_cs S n j) (32 + n) = em_g S (32 + n) := by
  rw [wk_csE] at h0 ⊢
  cases e : em_a (Nat.beq (em_ta S n j) (em_g S (17 + n))) (em_mj (em_hv S n j)) with
  | false => rw [by_cf rfl]
  | true =>
    rw [e, by_ct rfl] at h0
    rw [by_ct rfl]
    exact wk_ct_k hk ⟨by omega, by omega⟩ 20 S hS h0
end
section
variable {P : ra_P} {M : Nat}
theorem wk_cm12 {n : Nat} {post : St2 → Prop} (hk : n < 5) : ∀ (j S : Nat) {f1 f2 f3 f4 : Int32} {a1 a2 a3 a4 a5 a6 a7 a8 a9 a10 a11 a12 a13 a14 a15 a16 a17 : Nat → Int32}, ra_R P M S (f1, f2, f3, f4, a1, a2, a3, a4, a5, a6, a7, a8, a9, a10, a11, a12, a13, a14, a15, a16, a17) → em_cl n j S ≠ 0 → j ≤ em_g S (32 + n) → (∀ u', ra_R P M (em_cl n j S) u' → post u') → wX_countMost_12 post (nI n) 31 (j + 1) (nI j) f1 f2 f3 f4 a1 a2 a3 a4 a5 a6 a7 a8 a9 a10 a11 a12 a13 a14 a15 a16 a17 := by
  intro j
  induction j with
  | zero =>
    intro S f1 f2 f3 f4 a1 a2 a3 a4 a5 a6 a7 a8 a9 a10 a11 a12 a13 a14 a15 a16 a17 h h0 hj hp
    have h' := h
    obtain ⟨hP, hF, h1, h2, h3, h4, h5, h6, h7, h8, h9, hn, h10, h11, h12, h14, h15, h16, h17⟩ := h
    have lc := by_lt S (37 + n)
    refine ⟨pk_in n 5 hk, br_t ?_ (hp _ h')⟩
    rw [nI_clamp (show n < 2 ^ 31 by omega), h11 n hk]
    exact nI_le (by omega) (by omega)
  | succ j ih =>
    intro S f1 f2 f3 f4 a1 a2 a3 a4 a5 a6 a7 a8 a9 a10 a11 a12 a13 a14 a15 a16 a17 h h0 hj hp
    have h' := h
    obtain ⟨hP, hF, h1, h2, h3, h4, h5, h6, h7, h8, h9, hn, h10, h11, h12, h14, h15, h16, h17⟩ := h
    have l16 := hn n hk
    have lc := by_lt S (37 + n)
    rw [wk_clE] at h0 hp
    refine ⟨pk_in n 5 hk, ?_⟩
    rw [nI_clamp (show n < 2 ^ 31 by omega), h11 n hk]
    refine pk_le (j + 1) (em_g S (37 + n)) (fun z => ?_) (fun z => ⟨6, wk_cm28 h' hk hj ?_ ?_ 5 0 rfl⟩)
    · rw [by_ct (by_le.mpr z)] at hp
      exact hp _ h'
    · rw [by_cf (by_lef.mpr z)] at h0
      exact (by_b h0).1
    · rw [by_cf (by_lef.mpr z)] at h0 hp
      obtain ⟨b1, b2, b3⟩ := by_b h0
      rw [b3] at hp
      intro f1 f2 f3 f4 a1 a2 a3 a4 a5 a6 a7 a8 a9 a10 a11 a12 a13 a14 a15 a16 a17 hu
      exact ih _ hu b2 (by rw [wk_cs_en hk hn b1]; omega) hp
theorem wk_countMost {S n : Nat} {u : St2} {post : St2 → Prop} (h : ra_R P M S u) (hk : n < 5) (h0 : em_cm S n ≠ 0) (hp : ∀ u', ra_R P M (em_cm S n) u' → post u') : wpX_countMost post u (nI n) := by
  have E : em_cm S n = em_cl n (em_g S (32 + n)) S := rfl
  rw [E] at h0 hp
  obtain ⟨f1, f2, f3, f4, a1, a2, a3, a4, a5, a6, a7, a8, a9, a10, a11, a12, a13, a14, a15, a16, a17⟩ := u
  exact wk_membersFor h hk (wk_lastOf h hk ⟨_, wk_cm12 hk _ S h h0 (Nat.le_refl _) hp⟩)
theorem wk_po_k {S so fr to x y z k : Nat} (h0 : em_po S so fr to x y z ≠ 0) (hso : so < 256) (hfr : fr < 256) (hto : to < 256) (hx : x < 256) (hy : y < 256) (hz : z < 256) (hk : k < 257 ∧ k ≠ 1) : em_g (em_po S so fr to x y z) k = em_g S k := by
  obtain ⟨hw, E⟩ := wk_poE h0
  obtain ⟨m0, _⟩ := by_m7 hso hfr hto (by_lt S (17 + fr)) hx hy hz
  rw [E, by_ne (by omega) hk.2, by_gwn _ _ _ m0 (by omega)]
theorem wk_send_l {f1 f2 f3 f4 : Int32} {a1 a2 a3 a4 a5 a6 a7 a8 a9 a10 a11 a12 a13 a14 a15 a16 a17 : Nat → Int32} {p q : Nat} {post : St2 → Prop} (hp64 : p < 64) (hq : q < 554)
    (hp : ∀ b : Nat → Int32, (∀ c, c < 7 → b (16 * p + (8 + c)) = a10 (q + c)) → (∀ i, (i < 16 * p + 8 ∨ 16 * p + 15 ≤ i) → b i = a16 i) → post (f1, f2, f3, f4, a1, a2, a3, a4, a5, a6, a7, a8, a9, a10, a11, a12, a13, a14, a15, b, a17)) :
    ∀ f k (b : Nat → Int32), k + f = 7 → (∀ c, c < k → b (16 * p + (8 + c)) = a10 (q + c)) → (∀ i, (i < 16 * p + 8 ∨ 16 * p + 15 ≤ i) → b i = a16 i) → wX_sendTo_105 post (nI (16 * p)) (nI q) f1 f2 f3 f4 (f + 1) (nI k) a1 a2 a3 a4 a5 a6 a7 a8 a9 a10 a11 a12 a13 a14 a15 b a17 := by
  intro f
  induction f with
  | zero =>
    intro k b e g1 g2
    have : k = 7 := by omega
    subst this
    exact br_t (by decide) (hp b g1 g2)
  | succ f ih =>
    intro k b e g1 g2
    refine pk_le 7 k (fun z => absurd z (by omega)) (fun z => ?_)
    rw [show (8 : Int32) = nI 8 from rfl, nI_add, nI_add, nI_add, nI_clamp (show q + k < 2 ^ 31 by omega), nI_clamp (show 16 * p + 8 + k < 2 ^ 31 by omega)]
    refine ⟨vp_in_nI (by omega) (by decide), vp_in_nI (by omega) (by decide), nm_e (nm_r (nI_1 k) (ih (k + 1) _ (by omega) ?_ ?_))⟩
    · intro c hc
      by_cases ec : c = k
      · rw [ec, show 16 * p + (8 + k) = 16 * p + 8 + k by omega, pk_us]
      · rw [pk_un (by omega)]
        exact g1 c (by omega)
    · intro i hi
      rw [pk_un (by omega)]
      exact g2 i hi
theorem wk_seE {S n o : Nat} (h0 : em_se S n o ≠ 0) : ∃ j, em_g S (47 + (5 * n + o)) = j + 1 ∧ j ≤ em_g S (32 + n) ∧ em_po S 5 n o j (em_ta S n j) (em_g S (37 + n)) ≠ 0 ∧
    ((em_g S (32 + n) < j + 1 ∧ em_se S n o = em_po S 5 n o j (em_ta S n j) (em_g S (37 + n))) ∨
     (j + 1 ≤ em_g S (32 + n) ∧ em_se S n o = em_s (em_s (em_s (em_po S 5 n o j (em_ta S n j) (em_g S (37 + n))) (264 + 10 * ((em_g S 0 + em_g S 1) % 64)) 1) (265 + 10 * ((em_g S 0 + em_g S 1) % 64)) (em_g S (97 + 16 * n + j))) (266 + 10 * ((em_g S 0 + em_g S 1) % 64)) (em_g S (177 + 16 * n + j)))) := by
  have E : em_se S n o = em_b (em_g S (47 + (5 * n + o))) (fun i => em_c (Nat.ble i (em_g S (32 + n) + 1)) (em_b (em_po S 5 n o (i - 1) (em_ta S n (i - 1)) (em_g S (37 + n))) (fun S1 => em_c (Nat.ble i (em_g S (32 + n))) (em_s (em_s (em_s S1 (264 + 10 * ((em_g S 0 + em_g S 1) % 64)) 1) (265 + 10 * ((em_g S 0 + em_g S 1) % 64)) (em_g S (96 + (16 * n + i)))) (266 + 10 * ((em_g S 0 + em_g S 1) % 64)) (em_g S (176 + (16 * n + i)))) S1)) 0) := rfl
  rw [E] at h0 ⊢
  obtain ⟨b1, b2, b3⟩ := by_b h0
  rw [b3]
  obtain ⟨j, ej⟩ : ∃ j, em_g S (47 + (5 * n + o)) = j + 1 := ⟨em_g S (47 + (5 * n + o)) - 1, by omega⟩
  rw [ej] at b2 ⊢
  rw [show j + 1 - 1 = j by omega, show 96 + (16 * n + (j + 1)) = 97 + 16 * n + j by omega, show 176 + (16 * n + (j + 1)) = 177 + 16 * n + j by omega] at b2 ⊢
  cases e : Nat.ble (j + 1) (em_g S (32 + n) + 1) with
  | false => rw [by_cf e] at b2; exact absurd rfl b2
  | true =>
    rw [by_ct e] at b2
    obtain ⟨c1, c2, c3⟩ := by_b b2
    rw [by_ct rfl, c3]
    refine ⟨j, rfl, by have := by_le.mp e; omega, c1, ?_⟩
    cases e2 : Nat.ble (j + 1) (em_g S (32 + n)) with
    | false => exact Or.inl ⟨by_lef.mp e2, by rw [by_cf rfl]⟩
    | true => exact Or.inr ⟨by_le.mp e2, by rw [by_ct rfl]⟩
theorem wk_sendTo {S n o : Nat} {u : St2} {post : St2 → Prop} (h : ra_R P M S u) (hk : n < 5) (ho : o < 5) (h0 : em_se S n o ≠ 0) (hp : ∀ u', ra_R P M (em_se S n o) u' → post u') : wpX_sendTo post u (nI n) (nI o) := by
  have h' := h
  obtain ⟨f1, f2, f3, f4, a1, a2, a3, a4, a5, a6, a7, a8, a9, a10, a11, a12, a13, a14, a15, a16, a17⟩ := u
  obtain ⟨hP, hF, h1, h2, h3, h4, h5, h6, h7, h8, h9, hn, h10, h11, h12, h14, h15, h16, h17⟩ := h
  obtain ⟨j, ej, hj, c1, cc⟩ := wk_seE h0
  have l16 := hn n hk
  have lc := by_lt S (37 + n)
  have la := wk_ta_lt (S := S) n j
  have K : ∀ k, k < 257 ∧ k ≠ 1 → em_g (em_po S 5 n o j (em_ta S n j) (em_g S (37 + n))) k = em_g S k := fun k z => wk_po_k c1 (by omega) (by omega) (by omega) (by omega) la lc z
  unfold wpX_sendTo
  dsimp only
  rw [wk_5k, nI_clamp (show 5 * n + o < 2 ^ 31 by omega), nI_clamp (show n < 2 ^ 31 by omega), h14 (5 * n + o) (by omega), ej, h7 n hk, h11 n hk]
  refine ⟨vp_in_nI (by omega) (by decide), nm_e ⟨pk_in n 5 hk, br_t (nI_lt (a := 0) (by omega) (by omega)) ?_⟩⟩
  rw [nI_pred]
  refine wk_termAt h' hk hj ⟨pk_in n 5 hk, wk_post (so := 5) h' c1 (by omega) hk ho (by omega) la lc (fun u' hu => ?_)⟩
  obtain ⟨g1, g2, g3, g4, b1, b2, b3, b4, b5, b6, b7, b8, b9, b10, b11, b12, b13, b14, b15, b16, b17⟩ := u'
  have hu' := hu
  obtain ⟨kP, kF, k1, k2, k3, k4, k5, k6, k7, k8, k9, kn, k10, k11, k12, k14, k15, k16, k17⟩ := hu
  dsimp only
  refine wk_lastOf hu' hk ?_
  rw [K (32 + n) ⟨by omega, by omega⟩]
  rcases cc with ⟨d1, d2⟩ | ⟨d1, d2⟩
  · rw [d2] at hp
    exact br_t (nI_lt d1 (by omega)) (hp _ hu')
  · rw [d2] at hp
    refine br_f (nI_nlt d1 (by omega)) (wk_cellOf hu' hk ?_)
    rw [show (7 : Int32) = nI 7 from rfl, nI_add, nI_clamp (show 16 * ((em_g S 0 + em_g S 1) % 64) + 7 < 2 ^ 31 by omega)]
    refine ⟨vp_in_nI (by omega) (by decide), nm_e ⟨8, wk_send_l (by omega) (by omega) (fun b g1' g2' => ?_) 7 0 _ rfl (fun c hc => absurd hc (by omega)) (fun _ _ => rfl)⟩⟩
    refine hp _ (ra_usn hu' (by omega) (by_lt _ _) (by_lt _ _) ?_ ?_ ?_)
    · rw [g2' _ (by omega), pk_us]
    · intro c hc
      rw [g1' c hc, k10 n j c hk (by rw [K (32 + n) ⟨by omega, by omega⟩]; omega) hc, K _ ⟨by omega, by omega⟩, K _ ⟨by omega, by omega⟩]
    · intro i hi hi2
      rw [g2' i (by omega), pk_un (by omega)]
end
end
section
/-! ===== receiving ===== -/
section
variable {P : ra_P} {M S : Nat} {u : St2}
theorem wk_isUpToDate {n : Nat} {post : Int32 → Prop} (h : ra_R P M S u) (hk : n < 5) (ht : em_ut S M n = true → post 1) (hf : em_ut S M n = false → post 0) : wpX_isUpToDate post u (nI n) := by
  have h' := h
  obtain ⟨f1, f2, f3, f4, a1, a2, a3, a4, a5, a6, a7, a8, a9, a10, a11, a12, a13, a14, a15, a16, a17⟩ := u
  obtain ⟨hP, hF, h1, h2, h3, h4, h5, h6, h7, h8, h9, hn, h10, h11, h12, h14, h15, h16, h17⟩ := h
  have E : em_ut S M n = em_o (Nat.ble (em_ta S n (em_g S (32 + n)) + 1) (em_g M 5)) (em_a (Nat.beq (em_g M 5) (em_ta S n (em_g S (32 + n)))) (Nat.ble (em_g S (32 + n)) (em_g M 4))) := rfl
  rw [E] at ht hf
  have l16 := hn n hk
  have la := wk_ta_lt (S := S) n (em_g S (32 + n))
  have l5 := by_lt M 5
  have l4 := by_lt M 4
  unfold wpX_isUpToDate
  dsimp only
  rw [h17.2.1 5 (by omega), h17.2.1 4 (by omega)]
  refine wk_lastOf h' hk (wk_termAt h' hk (Nat.le_refl _) (pk_lt (em_ta S n (em_g S (32 + n))) (em_g M 5) (fun z => ht (by_o.mpr (Or.inl (by_le.mpr z)))) (fun z => pk_eq (em_g M 5) (em_ta S n (em_g S (32 + n))) (fun z2 => wk_lastOf h' hk (pk_lt (em_g M 4) (em_g S (32 + n)) (fun z3 => hf ?_) (fun z3 => ht ?_))) (fun z2 => hf ?_))))
  · exact by_of.mpr ⟨by_lef.mpr (by omega), by_af.mpr (Or.inr (by_lef.mpr z3))⟩
  · exact by_o.mpr (Or.inr (by_a.mpr ⟨by_be.mpr z2, by_le.mpr z3⟩))
  · exact by_of.mpr ⟨by_lef.mpr (by omega), by_af.mpr (Or.inl (by_bef.mpr z2))⟩
theorem wk_elect_35 {f1 f2 f3 f4 : Int32} {a1 a2 a3 a4 a5 a6 a7 a8 a9 a10 a11 a12 a13 a14 a15 a16 a17 : Nat → Int32} {fr to : Nat} {b : Bool} {z0 : Int32} {post : St2 → Prop} (h : ra_R P M S (f1, f2, f3, f4, a1, a2, a3, a4, a5, a6, a7, a8, a9, a10, a11, a12, a13, a14, a15, a16, a17)) (hfr : fr < 5) (hto : to < 5) (hz : z0 = 0 ↔ b = false)
    (h0 : em_c (em_a (Nat.beq (em_g M 3) (em_g S (17 + to))) (em_a b (em_ut S M to))) (em_b (em_s S (22 + to) (fr + 1)) (fun S2 => em_po S2 4 to fr 0 0 0)) S ≠ 0)
    (hp : ∀ u', ra_R P M (em_c (em_a (Nat.beq (em_g M 3) (em_g S (17 + to))) (em_a b (em_ut S M to))) (em_b (em_s S (22 + to) (fr + 1)) (fun S2 => em_po S2 4 to fr 0 0 0)) S) u' → post u') : wX_elect_35 post (nI fr) (nI to) z0 f1 f2 f3 f4 a1 a2 a3 a4 a5 a6 a7 a8 a9 a10 a11 a12 a13 a14 a15 a16 a17 := by
  have h' := h
  obtain ⟨hP, hF, h1, h2, h3, h4, h5, h6, h7, h8, h9, hn, h10, h11, h12, h14, h15, h16, h17⟩ := h
  have l3 := by_lt M 3
  have l17 := by_lt S (17 + to)
  unfold wX_elect_35
  rw [nI_clamp (show to < 2 ^ 31 by omega), h4 to hto, h17.2.1 3 (by omega)]
  refine ⟨pk_in to 5 hto, pk_eq (em_g M 3) (em_g S (17 + to)) (fun z => ?_) (fun z => ?_)⟩
  · cases b with
    | false =>
      rw [by_cf (by_af.mpr (Or.inr (by_af.mpr (Or.inl rfl))))] at hp
      exact br_t (hz.mpr rfl) (hp _ h')
    | true =>
      refine br_f (fun q => Bool.noConfusion (hz.mp q)) (wk_isUpToDate h' hto (fun q => br_f (by decide) ⟨pk_in to 5 hto, nm_e ?_⟩) (fun q => br_t rfl ?_))
      · rw [by_ct (by_a.mpr ⟨by_be.mpr z, by_a.mpr ⟨rfl, q⟩⟩)] at h0 hp
        obtain ⟨b1, b2, b3⟩ := by_b h0
        rw [b3] at hp
        have g := ra_u5 h' hto (show fr + 1 < 256 by omega)
        have w : ra_w (fr + 1) = nI fr := rfl
        rw [w] at g
        refine wk_post (so := 4) (x := 0) (y := 0) (z := 0) g b2 (by omega) hto hfr (by omega) (by omega) (by omega) (fun u' hu => ?_)
        obtain ⟨f1, f2, f3, f4, a1, a2, a3, a4, a5, a6, a7, a8, a9, a10, a11, a12, a13, a14, a15, a16, a17⟩ := u'
        exact hp _ hu
      · rw [by_cf (by_af.mpr (Or.inr (by_af.mpr (Or.inr q))))] at hp
        exact hp _ h'
  · rw [by_cf (by_af.mpr (Or.inl (by_bef.mpr z)))] at hp
    exact hp _ h'
theorem wk_w0 {v : Nat} (h : v = 0) : ra_w v < 0 := by
  rw [h]
  decide
theorem wk_w1 {v : Nat} (h : v ≠ 0) : ra_w v = nI (v - 1) := by
  unfold ra_w
  rw [if_neg h]
theorem wk_elect {fr to : Nat} {post : St2 → Prop} (h : ra_R P M S u) (hfr : fr < 5) (hto : to < 5) (h0 : em_el S M fr to ≠ 0) (hp : ∀ u', ra_R P M (em_el S M fr to) u' → post u') : wpX_elect post u (nI fr) (nI to) := by
  have h' := h
  obtain ⟨f1, f2, f3, f4, a1, a2, a3, a4, a5, a6, a7, a8, a9, a10, a11, a12, a13, a14, a15, a16, a17⟩ := u
  obtain ⟨hP, hF, h1, h2, h3, h4, h5, h6, h7, h8, h9, hn, h10, h11, h12, h14, h15, h16, h17⟩ := h
  have E : em_el S M fr to = em_b (em_et S to (em_g M 3)) (fun S1 => em_c (em_a (Nat.beq (em_g M 3) (em_g S1 (17 + to))) (em_a (em_o (Nat.beq (em_g S1 (22 + to)) 0) (Nat.beq (em_g S1 (22 + to)) (fr + 1))) (em_ut S1 M to))) (em_b (em_s S1 (22 + to) (fr + 1)) (fun S2 => em_po S2 4 to fr 0 0 0)) S1) := rfl
  rw [E] at h0 hp
  obtain ⟨b1, b2, b3⟩ := by_b h0
  rw [b3] at hp
  unfold wpX_elect
  dsimp only
  rw [h17.2.1 3 (by omega)]
  refine wk_enterTerm h' hto (by_lt M 3) (fun u' hu => ?_)
  obtain ⟨f1, f2, f3, f4, a1, a2, a3, a4, a5, a6, a7, a8, a9, a10, a11, a12, a13, a14, a15, a16, a17⟩ := u'
  have hu' := hu
  obtain ⟨hP, hF, h1, h2, h3, h4, h5, h6, h7, h8, h9, hn, h10, h11, h12, h14, h15, h16, h17⟩ := hu
  dsimp only
  have lv := by_lt (em_et S to (em_g M 3)) (22 + to)
  rw [nI_clamp (show to < 2 ^ 31 by omega), h5 to hto]
  have z1 : ∀ b : Bool, b = true → ((1 : Int32) = 0 ↔ b = false) := fun b hb => ⟨fun q => absurd q (by decide), fun q => by rw [hb] at q; exact Bool.noConfusion q⟩
  by_cases v0 : em_g (em_et S to (em_g M 3)) (22 + to) = 0
  · refine ⟨pk_in to 5 hto, br_t (wk_w0 v0) ?_⟩
    unfold wX_elect_30
    exact wk_elect_35 hu' hfr hto (z1 _ (by_o.mpr (Or.inl (by_be.mpr v0)))) b2 hp
  · rw [wk_w1 v0]
    refine ⟨pk_in to 5 hto, br_f (nI_pos (by omega)) ⟨pk_in to 5 hto, pk_eq (em_g (em_et S to (em_g M 3)) (22 + to) - 1) fr (fun z => ?_) (fun z => ?_)⟩⟩
    · unfold wX_elect_30
      exact wk_elect_35 hu' hfr hto (z1 _ (by_o.mpr (Or.inr (by_be.mpr (by omega))))) b2 hp
    · exact wk_elect_35 hu' hfr hto ⟨fun _ => by_of.mpr ⟨by_bef.mpr v0, by_bef.mpr (by omega)⟩, fun _ => rfl⟩ b2 hp
/-! a new entry -/
theorem wk_last2 {f1 f2 f3 f4 : Int32} {a1 a2 a3 a4 a5 a6 a7 a8 a9 a10 a11 a12 a13 a14 a15 a16 a17 : Nat → Int32} {n e : Nat} {post : Int32 → Prop} (hk : n < 5) (h7 : a7 n = 0) (h9 : a9 n = nI e) (hp : post (nI e)) : wpX_lastOf post (f1, f2, f3, f4, a1, a2, a3, a4, a5, a6, a7, a8, a9, a10, a11, a12, a13, a14, a15, a16, a17) (nI n) := by
  refine ⟨pk_in n 5 hk, pk_in n 5 hk, ?_⟩
  rw [nI_clamp (by omega), h7, h9, wk_z]
  exact hp
theorem wk_cell2 {f1 f2 f3 f4 : Int32} {a1 a2 a3 a4 a5 a6 a7 a8 a9 a10 a11 a12 a13 a14 a15 a16 a17 : Nat → Int32} {n j : Nat} {post : Int32 → Prop} (hk : n < 5) (h7 : a7 n = 0) (hp : post (nI (7 * (16 * n + j)))) : wpX_cellOf post (f1, f2, f3, f4, a1, a2, a3, a4, a5, a6, a7, a8, a9, a10, a11, a12, a13, a14, a15, a16, a17) (nI n) (nI (j + 1)) := by
  refine ⟨pk_in n 5 hk, ?_⟩
  rw [nI_clamp (by omega), h7, wk_s0, wk_16, pk_mul, nI_add, ← Nat.add_assoc, nI_pred, wk_7, pk_mul]
  exact hp
theorem wk_newEntry {f1 f2 f3 f4 : Int32} {a1 a2 a3 a4 a5 a6 a7 a8 a9 a10 a11 a12 a13 a14 a15 a16 a17 : Nat → Int32} {n e : Nat} {post : Int32 → St2 → Prop} (hk : n < 5) (h7 : a7 n = 0) (h9 : a9 n = nI e) (he : e < 16) (hp : post (nI (7 * (16 * n + e))) (f1, f2, f3, f4, a1, a2, a3, a4, a5, a6, a7, a8, upd a9 n (nI (e + 1)), a10, a11, a12, a13, a14, a15, a16, a17)) : wpX_newEntry post (f1, f2, f3, f4, a1, a2, a3, a4, a5, a6, a7, a8, a9, a10, a11, a12, a13, a14, a15, a16, a17) (nI n) := by
  unfold wpX_newEntry
  dsimp only
  rw [nI_clamp (show n < 2 ^ 31 by omega), h9]
  refine ⟨pk_in n 5 hk, pk_eq e 16 (fun z => absurd z (by omega)) (fun z => ?_)⟩
  unfold wX_newEntry_16
  rw [nI_clamp (show n < 2 ^ 31 by omega), h9, nI_1]
  exact ⟨pk_in n 5 hk, pk_in n 5 hk, nm_e (wk_last2 hk h7 pk_us (wk_cell2 hk h7 hp))⟩
theorem wk_take_l {f1 f2 f3 f4 : Int32} {a1 a2 a3 a4 a5 a6 a7 a8 a9 a10 a11 a12 a13 a14 a15 a16 a17 : Nat → Int32} {q : Nat} {post : St2 → Prop} (hq : q < 554)
    (hp : ∀ b : Nat → Int32, (∀ c, c < 7 → b (q + c) = a17 (8 + c)) → (∀ i, (i < q ∨ q + 7 ≤ i) → b i = a10 i) → post (f1, f2, f3, f4, a1, a2, a3, a4, a5, a6, a7, a8, a9, b, a11, a12, a13, a14, a15, a16, a17)) :
    ∀ f k (b : Nat → Int32), k + f = 7 → (∀ c, c < k → b (q + c) = a17 (8 + c)) → (∀ i, (i < q ∨ q + 7 ≤ i) → b i = a10 i) → wX_takeEntry_51 post (nI q) f1 f2 f3 f4 (f + 1) (nI k) a1 a2 a3 a4 a5 a6 a7 a8 a9 b a11 a12 a13 a14 a15 a16 a17 := by
  intro f
  induction f with
  | zero =>
    intro k b e g1 g2
    have : k = 7 := by omega
    subst this
    exact br_t (by decide) (hp b g1 g2)
  | succ f ih =>
    intro k b e g1 g2
    refine pk_le 7 k (fun z => absurd z (by omega)) (fun z => ?_)
    rw [show (8 : Int32) = nI 8 from rfl, nI_add, nI_add, nI_clamp (show q + k < 2 ^ 31 by omega), nI_clamp (show 8 + k < 2 ^ 31 by omega)]
    refine ⟨vp_in_nI (by omega) (by decide), vp_in_nI (by omega) (by decide), nm_e (nm_r (nI_1 k) (ih (k + 1) _ (by omega) ?_ ?_))⟩
    · intro c hc
      by_cases ec : c = k
      · rw [ec, pk_us]
      · rw [pk_un (by omega)]
        exact g1 c (by omega)
    · intro i hi
      rw [pk_un (by omega)]
      exact g2 i hi
theorem wk_take_26 {f1 f2 f3 f4 : Int32} {a1 a2 a3 a4 a5 a6 a7 a8 a9 a10 a11 a12 a13 a14 a15 a16 a17 : Nat → Int32} {n j : Nat} {post : St2 → Prop} (h : ra_R P M S (f1, f2, f3, f4, a1, a2, a3, a4, a5, a6, a7, a8, a9, a10, a11, a12, a13, a14, a15, a16, a17)) (hk : n < 5) (hj : j ≤ em_g S (32 + n)) (hj2 : j < 16) (h7' : em_g M 7 = 1)
    (hp : ∀ u', ra_R P M (em_s (em_s (em_s (em_s S (32 + n) j) (97 + 16 * n + j) (em_g M 8)) (177 + 16 * n + j) (em_g M 9)) (32 + n) (j + 1)) u' → post u') : wX_takeEntry_26 post (nI n) (nI (j + 1)) f1 f2 f3 f4 a1 a2 a3 a4 a5 a6 a7 a8 a9 a10 a11 a12 a13 a14 a15 a16 a17 := by
  have h' := h
  obtain ⟨hP, hF, h1, h2, h3, h4, h5, h6, h7, h8, h9, hn, h10, h11, h12, h14, h15, h16, h17⟩ := h
  unfold wX_takeEntry_26
  rw [nI_clamp (show n < 2 ^ 31 by omega), h7 n hk, wk_s0, nI_pred]
  refine ⟨pk_in n 5 hk, pk_in n 5 hk, nm_e (wk_newEntry hk (h7 n hk) pk_us hj2 ⟨8, wk_take_l (by omega) (fun b g1 g2 => hp _ ?_) 7 0 _ rfl (fun c hc => absurd hc (by omega)) (fun _ _ => rfl)⟩)⟩
  have r1 := ra_u9 h' hk (show j ≤ 16 by omega) (fun i c z1 z2 => h10 n i c hk (by omega) z2)
  have e1 : em_g (em_s S (32 + n) j) (32 + n) = j := by_eq (by omega)
  have r2 := ra_u10 (a := b) r1 (fun m i c z1 z2 z3 => g2 _ (by
    by_cases e : m = n
    · subst e
      rw [e1] at z2
      omega
    · rw [by_ne (by omega) (by omega)] at z2
      have := hn m z1
      omega))
  have r3 := ra_uLt r2 hk (by rw [e1]; exact Nat.le_refl j) hj2 (by_lt M 8)
  have r4 := ra_uLc r3 hk (by rw [by_ne (by_lt M 8) (by omega), e1]; exact Nat.le_refl j) hj2 (by_lt M 9)
  refine ra_u9 r4 hk (show j + 1 ≤ 16 by omega) (fun i c z1 z2 => ?_)
  by_cases e : i = j
  · subst e
    rw [g1 c z2, by_ne (by_lt M 9) (by omega), by_eq (by_lt M 8), by_eq (by_lt M 9)]
    exact h17.2.2 h7' c z2
  · rw [g2 _ (by omega), h10 n i c hk (by omega) z2, by_ne (by_lt M 9) (by omega), by_ne (by_lt M 8) (by omega), by_ne (by omega) (by omega), by_ne (by_lt M 9) (by omega), by_ne (by_lt M 8) (by omega), by_ne (by omega) (by omega)]
theorem wk_takeEntry {n j : Nat} {post : St2 → Prop} (h : ra_R P M S u) (hk : n < 5) (hj : j ≤ em_g S (32 + n)) (h7' : em_g M 7 = 1) (h0 : em_tk S M n (j + 1) ≠ 0) (hp : ∀ u', ra_R P M (em_tk S M n (j + 1)) u' → post u') : wpX_takeEntry post u (nI n) (nI (j + 1)) := by
  have h' := h
  obtain ⟨f1, f2, f3, f4, a1, a2, a3, a4, a5, a6, a7, a8, a9, a10, a11, a12, a13, a14, a15, a16, a17⟩ := u
  obtain ⟨hP, hF, h1, h2, h3, h4, h5, h6, h7, h8, h9, hn, h10, h11, h12, h14, h15, h16, h17⟩ := h
  have E : em_tk S M n (j + 1) = em_c (em_a (Nat.ble (j + 1) (em_g S (32 + n))) (Nat.beq (em_ta S n (j + 1)) (em_g M 8))) S
    (em_c (Nat.ble 17 (j + 1)) 0 (em_s (em_s (em_s (em_s S (32 + n) j) (96 + (16 * n + (j + 1))) (em_g M 8)) (176 + (16 * n + (j + 1))) (em_g M 9)) (32 + n) (j + 1))) := rfl
  rw [E, show 96 + (16 * n + (j + 1)) = 97 + 16 * n + j by omega, show 176 + (16 * n + (j + 1)) = 177 + 16 * n + j by omega] at h0 hp
  have l16 := hn n hk
  have la := wk_ta_lt (S := S) n (j + 1)
  have l8 := by_lt M 8
  have m8 : a17 8 = nI (em_g M 8) := h17.2.2 h7' 0 (by omega)
  have K : em_a (Nat.ble (j + 1) (em_g S (32 + n))) (Nat.beq (em_ta S n (j + 1)) (em_g M 8)) = false → wX_takeEntry_26 post (nI n) (nI (j + 1)) f1 f2 f3 f4 a1 a2 a3 a4 a5 a6 a7 a8 a9 a10 a11 a12 a13 a14 a15 a16 a17 := by
    intro e
    rw [by_cf e] at h0 hp
    cases e2 : Nat.ble 17 (j + 1) with
    | true => rw [by_ct e2] at h0; exact absurd rfl h0
    | false =>
      rw [by_cf e2] at hp
      exact wk_take_26 h' hk hj (by have := by_lef.mp e2; omega) h7' hp
  unfold wpX_takeEntry
  dsimp only
  rw [m8]
  refine wk_lastOf h' hk (pk_lt (em_g S (32 + n)) (j + 1) (fun z => K (by_af.mpr (Or.inl (by_lef.mpr z)))) (fun z => wk_termAt h' hk z (pk_eq (em_ta S n (j + 1)) (em_g M 8) (fun z2 => ?_) (fun z2 => K (by_af.mpr (Or.inr (by_bef.mpr z2)))))))
  rw [by_ct (by_a.mpr ⟨by_le.mpr z, by_be.mpr z2⟩)] at hp
  exact hp _ h'
end
end
section
/-! ===== append, hear, deliver ===== -/
section
variable {P : ra_P} {M S : Nat} {u : St2}
theorem wk_append_93 {f1 f2 f3 f4 : Int32} {a1 a2 a3 a4 a5 a6 a7 a8 a9 a10 a11 a12 a13 a14 a15 a16 a17 : Nat → Int32} {fr to : Nat} {post : St2 → Prop} (h : ra_R P M S (f1, f2, f3, f4, a1, a2, a3, a4, a5, a6, a7, a8, a9, a10, a11, a12, a13, a14, a15, a16, a17)) (hfr : fr < 5) (hto : to < 5)
    (h0 : em_c (Nat.beq (em_g M 4) 0) 0 (em_po S 7 to fr (em_c (Nat.ble (em_g S (32 + to)) (em_g M 4 - 1)) (em_g S (32 + to)) (em_g M 4 - 1)) 0 0) ≠ 0)
    (hp : ∀ u', ra_R P M (em_c (Nat.beq (em_g M 4) 0) 0 (em_po S 7 to fr (em_c (Nat.ble (em_g S (32 + to)) (em_g M 4 - 1)) (em_g S (32 + to)) (em_g M 4 - 1)) 0 0)) u' → post u') : wX_append_93 post (nI fr) (nI to) (nI (em_g M 4)) f1 f2 f3 f4 a1 a2 a3 a4 a5 a6 a7 a8 a9 a10 a11 a12 a13 a14 a15 a16 a17 := by
  have h' := h
  obtain ⟨hP, hF, h1, h2, h3, h4, h5, h6, h7, h8, h9, hn, h10, h11, h12, h14, h15, h16, h17⟩ := h
  have l4 := by_lt M 4
  have l16 := hn to hto
  cases e : Nat.beq (em_g M 4) 0 with
  | true => rw [by_ct e] at h0; exact absurd rfl h0
  | false =>
    rw [by_cf e] at h0 hp
    obtain ⟨j, ej⟩ : ∃ j, em_g M 4 = j + 1 := ⟨em_g M 4 - 1, by have := by_bef.mp e; omega⟩
    rw [ej, show j + 1 - 1 = j by omega] at h0 hp
    unfold wX_append_93
    rw [ej, nI_pred]
    refine wk_lastOf h' hto (pk_le (em_g S (32 + to)) j (fun z => wk_lastOf h' hto ?_) (fun z => ?_))
    · rw [by_ct (b := Nat.ble (em_g S (32 + to)) j) (by_le.mpr z)] at h0 hp
      unfold wX_append_115
      refine wk_post (so := 7) (y := 0) (z := 0) h' h0 (by omega) hto hfr (by omega) (by omega) (by omega) (fun u' hu => ?_)
      obtain ⟨f1, f2, f3, f4, a1, a2, a3, a4, a5, a6, a7, a8, a9, a10, a11, a12, a13, a14, a15, a16, a17⟩ := u'
      exact hp _ hu
    · rw [by_cf (b := Nat.ble (em_g S (32 + to)) j) (by_lef.mpr z)] at h0 hp
      unfold wX_append_115
      refine wk_post (so := 7) (y := 0) (z := 0) h' h0 (by omega) hto hfr (by omega) (by omega) (by omega) (fun u' hu => ?_)
      obtain ⟨f1, f2, f3, f4, a1, a2, a3, a4, a5, a6, a7, a8, a9, a10, a11, a12, a13, a14, a15, a16, a17⟩ := u'
      exact hp _ hu
theorem wk_append_157 {f1 f2 f3 f4 : Int32} {a1 a2 a3 a4 a5 a6 a7 a8 a9 a10 a11 a12 a13 a14 a15 a16 a17 : Nat → Int32} {fr to has : Nat} {post : St2 → Prop} (h : ra_R P M S (f1, f2, f3, f4, a1, a2, a3, a4, a5, a6, a7, a8, a9, a10, a11, a12, a13, a14, a15, a16, a17)) (hfr : fr < 5) (hto : to < 5) (hh : has < 256) (h0 : em_ap S M fr to has ≠ 0) (hp : ∀ u', ra_R P M (em_ap S M fr to has) u' → post u') : wX_append_157 post (nI fr) (nI to) (nI has) f1 f2 f3 f4 a1 a2 a3 a4 a5 a6 a7 a8 a9 a10 a11 a12 a13 a14 a15 a16 a17 := by
  have h' := h
  obtain ⟨hP, hF, h1, h2, h3, h4, h5, h6, h7, h8, h9, hn, h10, h11, h12, h14, h15, h16, h17⟩ := h
  have l6 := by_lt M 6
  have E : em_ap S M fr to has = em_b (em_ct to (em_c (Nat.ble has (em_g M 6)) has (em_g M 6)) 20 S) (fun S1 => em_po S1 6 to fr has 0 0) := rfl
  rw [E] at h0 hp
  obtain ⟨b1, b2, b3⟩ := by_b h0
  rw [b3] at hp
  unfold wX_append_157
  rw [h17.2.1 6 (by omega)]
  refine pk_le has (em_g M 6) (fun z => ?_) (fun z => ?_)
  · rw [by_ct (by_le.mpr z)] at b1 b2 hp
    unfold wX_append_183
    refine wk_countTo h' hto (by omega) b1 (fun u' hu => ?_)
    obtain ⟨f1, f2, f3, f4, a1, a2, a3, a4, a5, a6, a7, a8, a9, a10, a11, a12, a13, a14, a15, a16, a17⟩ := u'
    dsimp only
    refine wk_post (so := 6) (y := 0) (z := 0) hu b2 (by omega) hto hfr (by omega) (by omega) (by omega) (fun u' hu => ?_)
    obtain ⟨f1, f2, f3, f4, a1, a2, a3, a4, a5, a6, a7, a8, a9, a10, a11, a12, a13, a14, a15, a16, a17⟩ := u'
    exact hp _ hu
  · rw [by_cf (by_lef.mpr z)] at b1 b2 hp
    unfold wX_append_183
    refine wk_countTo h' hto (by omega) b1 (fun u' hu => ?_)
    obtain ⟨f1, f2, f3, f4, a1, a2, a3, a4, a5, a6, a7, a8, a9, a10, a11, a12, a13, a14, a15, a16, a17⟩ := u'
    dsimp only
    refine wk_post (so := 6) (y := 0) (z := 0) hu b2 (by omega) hto hfr (by omega) (by omega) (by omega) (fun u' hu => ?_)
    obtain ⟨f1, f2, f3, f4, a1, a2, a3, a4, a5, a6, a7, a8, a9, a10, a11, a12, a13, a14, a15, a16, a17⟩ := u'
    exact hp _ hu
theorem wk_append {fr to : Nat} {post : St2 → Prop} (h : ra_R P M S u) (hfr : fr < 5) (hto : to < 5) (h0 : em_ae S M fr to ≠ 0) (hp : ∀ u', ra_R P M (em_ae S M fr to) u' → post u') : wpX_append post u (nI fr) (nI to) := by
  have h' := h
  obtain ⟨f1, f2, f3, f4, a1, a2, a3, a4, a5, a6, a7, a8, a9, a10, a11, a12, a13, a14, a15, a16, a17⟩ := u
  obtain ⟨hP, hF, h1, h2, h3, h4, h5, h6, h7, h8, h9, hn, h10, h11, h12, h14, h15, h16, h17⟩ := h
  have E : em_ae S M fr to = em_c (Nat.ble (em_g S (17 + to)) (em_g M 3)) (em_b (em_s (em_et S to (em_g M 3)) (12 + to) 0) (fun S1 => em_ax S1 M fr to)) S := rfl
  rw [E] at h0 hp
  have l3 := by_lt M 3
  have l4 := by_lt M 4
  have l5 := by_lt M 5
  have l7 := by_lt M 7
  have l17 := by_lt S (17 + to)
  unfold wpX_append
  dsimp only
  rw [nI_clamp (show to < 2 ^ 31 by omega), h4 to hto, h17.2.1 3 (by omega)]
  refine ⟨pk_in to 5 hto, pk_le (em_g S (17 + to)) (em_g M 3) (fun z => ?_) (fun z => ?_)⟩
  · rw [by_ct (by_le.mpr z)] at h0 hp
    obtain ⟨b1, b2, b3⟩ := by_b h0
    rw [b3] at hp
    refine wk_enterTerm h' hto l3 (fun u' hu => ?_)
    obtain ⟨f1, f2, f3, f4, a1, a2, a3, a4, a5, a6, a7, a8, a9, a10, a11, a12, a13, a14, a15, a16, a17⟩ := u'
    dsimp only
    have r := ra_u3 hu hto (show 0 < 256 by decide)
    generalize em_s (em_et S to (em_g M 3)) (12 + to) 0 = S1 at *
    have hr := r
    obtain ⟨hP, hF, h1, h2, h3, h4, h5, h6, h7, h8, h9, hn, h10, h11, h12, h14, h15, h16, h17⟩ := hr
    have l16 := hn to hto
    have E : em_ax S1 M fr to = em_c (em_o (Nat.ble (em_g S1 (32 + to) + 1) (em_g M 4)) (em_n (Nat.beq (em_ta S1 to (em_g M 4)) (em_g M 5))))
        (em_c (Nat.beq (em_g M 4) 0) 0 (em_po S1 7 to fr (em_c (Nat.ble (em_g S1 (32 + to)) (em_g M 4 - 1)) (em_g S1 (32 + to)) (em_g M 4 - 1)) 0 0))
        (em_c (Nat.beq (em_g M 7) 1) (em_b (em_tk S1 M to (em_g M 4 + 1)) (fun S2 => em_ap S2 M fr to (em_g M 4 + 1))) (em_ap S1 M fr to (em_g M 4))) := rfl
    rw [E] at b2 hp
    have la := wk_ta_lt (S := S1) to (em_g M 4)
    rw [h17.2.1 4 (by omega), h17.2.1 5 (by omega), h17.2.1 7 (by omega), h7 to hto]
    refine ⟨pk_in to 5 hto, nm_e (nm_e ⟨pk_in to 5 hto, br_t (nI_pos' (by omega)) (wk_lastOf r hto (pk_lt (em_g S1 (32 + to)) (em_g M 4) (fun z => ?_) (fun z => wk_termAt r hto z (pk_eq (em_ta S1 to (em_g M 4)) (em_g M 5) (fun z2 => pk_eq (em_g M 7) 1 (fun z3 => nm_r (nI_1 _) ?_) (fun z3 => ?_)) (fun z2 => ?_)))))⟩)⟩
    · rw [by_ct (by_o.mpr (Or.inl (by_le.mpr z)))] at b2 hp
      exact wk_append_93 r hfr hto b2 hp
    · rw [by_cf (by_of.mpr ⟨by_lef.mpr (by omega), by_nf.mpr (by_be.mpr z2)⟩), by_ct (by_be.mpr z3)] at b2 hp
      obtain ⟨c1, c2, c3⟩ := by_b b2
      rw [c3] at hp
      refine wk_takeEntry r hto z z3 c1 (fun u' hu => ?_)
      obtain ⟨f1, f2, f3, f4, a1, a2, a3, a4, a5, a6, a7, a8, a9, a10, a11, a12, a13, a14, a15, a16, a17⟩ := u'
      exact wk_append_157 hu hfr hto (by omega) c2 hp
    · rw [by_cf (by_of.mpr ⟨by_lef.mpr (by omega), by_nf.mpr (by_be.mpr z2)⟩), by_cf (by_bef.mpr z3)] at b2 hp
      exact wk_append_157 r hfr hto (by omega) b2 hp
    · rw [by_ct (by_o.mpr (Or.inr (by_n.mpr (by_bef.mpr z2))))] at b2 hp
      exact wk_append_93 r hfr hto b2 hp
  · rw [by_cf (by_lef.mpr z)] at hp
    exact hp _ h'
theorem by_self (S k : Nat) : em_s S k (em_g S k) = S := by
  rw [by_sE, Nat.xor_self, Nat.zero_shiftLeft, Nat.xor_zero]
theorem wk_hear_84 {f1 f2 f3 f4 : Int32} {a1 a2 a3 a4 a5 a6 a7 a8 a9 a10 a11 a12 a13 a14 a15 a16 a17 : Nat → Int32} {fr to v : Nat} {post : St2 → Prop} (h : ra_R P M S (f1, f2, f3, f4, a1, a2, a3, a4, a5, a6, a7, a8, a9, a10, a11, a12, a13, a14, a15, a16, a17)) (hfr : fr < 5) (hto : to < 5) (hv : v < 255)
    (h0 : em_h2 (em_s (em_s S (72 + (5 * to + fr)) v) (47 + (5 * to + fr)) (v + 1)) fr to (5 * to + fr) ≠ 0)
    (hp : ∀ u', ra_R P M (em_h2 (em_s (em_s S (72 + (5 * to + fr)) v) (47 + (5 * to + fr)) (v + 1)) fr to (5 * to + fr)) u' → post u') : wX_hear_84 post (nI fr) (nI to) (nI (5 * to + fr)) (nI v) (nI (5 * to + fr)) f1 f2 f3 f4 a1 a2 a3 a4 a5 a6 a7 a8 a9 a10 a11 a12 a13 a14 a15 a16 a17 := by
  have r := ra_u14 (ra_u15 h (show 5 * to + fr < 25 by omega) (show v < 256 by omega)) (show 5 * to + fr < 25 by omega) (show v + 1 < 256 by omega)
  unfold wX_hear_84
  rw [nI_clamp (show 5 * to + fr < 2 ^ 31 by omega)]
  refine ⟨vp_in_nI (by omega) (by decide), nm_e ⟨vp_in_nI (by omega) (by decide), vp_in_nI (by omega) (by decide), nm_r (by rw [pk_us, nI_1]) ?_⟩⟩
  generalize em_s (em_s S (72 + (5 * to + fr)) v) (47 + (5 * to + fr)) (v + 1) = S1 at *
  have E : em_h2 S1 fr to (5 * to + fr) = em_b (em_cm S1 to) (fun S2 => em_c (Nat.ble (em_g S2 (47 + (5 * to + fr))) (em_g S2 (32 + to))) (em_se S2 to fr) S2) := rfl
  rw [E] at h0 hp
  obtain ⟨b1, b2, b3⟩ := by_b h0
  rw [b3] at hp
  refine wk_countMost r hto b1 (fun u' hu => ?_)
  obtain ⟨f1, f2, f3, f4, a1, a2, a3, a4, a5, a6, a7, a8, a9, a10, a11, a12, a13, a14, a15, a16, a17⟩ := u'
  dsimp only
  have hu' := hu
  obtain ⟨hP, hF, h1, h2, h3, h4, h5, h6, h7, h8, h9, hn, h10, h11, h12, h14, h15, h16, h17⟩ := hu
  have l47 := by_lt (em_cm S1 to) (47 + (5 * to + fr))
  have l16 := hn to hto
  rw [h14 (5 * to + fr) (by omega)]
  refine ⟨vp_in_nI (by omega) (by decide), wk_lastOf hu' hto (pk_lt (em_g (em_cm S1 to) (32 + to)) (em_g (em_cm S1 to) (47 + (5 * to + fr))) (fun z => ?_) (fun z => ?_))⟩
  · rw [by_cf (by_lef.mpr z)] at hp
    exact hp _ hu'
  · rw [by_ct (by_le.mpr z)] at b2 hp
    refine wk_sendTo hu' hto hfr b2 (fun u' hu => ?_)
    obtain ⟨f1, f2, f3, f4, a1, a2, a3, a4, a5, a6, a7, a8, a9, a10, a11, a12, a13, a14, a15, a16, a17⟩ := u'
    exact hp _ hu
theorem wk_hear {so fr to : Nat} {post : St2 → Prop} (h : ra_R P M S u) (hso : so < 256) (hfr : fr < 5) (hto : to < 5) (h0 : em_he S M so fr to ≠ 0) (hp : ∀ u', ra_R P M (em_he S M so fr to) u' → post u') : wpX_hear post u (nI so) (nI fr) (nI to) := by
  have h' := h
  obtain ⟨f1, f2, f3, f4, a1, a2, a3, a4, a5, a6, a7, a8, a9, a10, a11, a12, a13, a14, a15, a16, a17⟩ := u
  obtain ⟨hP, hF, h1, h2, h3, h4, h5, h6, h7, h8, h9, hn, h10, h11, h12, h14, h15, h16, h17⟩ := h
  have E : em_he S M so fr to = em_c (Nat.beq (em_g S (12 + to)) 1)
    (em_f (5 * to + fr) (fun at' =>
      em_c (em_o (Nat.ble 255 (em_g M 4)) (Nat.ble 255 (em_g S (72 + at')))) 0 (em_c (Nat.beq so 7)
        (em_b (em_s S (47 + at') (em_g M 4 + 1)) (fun S1 => em_se S1 to fr))
        (em_c (Nat.ble (em_g M 4) (em_g S (72 + at')))
          (em_b (em_s S (47 + at') (em_g S (72 + at') + 1)) (fun S1 => em_h2 S1 fr to at'))
          (em_b (em_s (em_s S (72 + at') (em_g M 4)) (47 + at') (em_g M 4 + 1)) (fun S1 => em_h2 S1 fr to at')))))) S := rfl
  rw [E, by_f] at h0 hp
  have l12 := by_lt S (12 + to)
  have l4 := by_lt M 4
  have l72 := by_lt S (72 + (5 * to + fr))
  unfold wpX_hear
  dsimp only
  rw [nI_clamp (show to < 2 ^ 31 by omega), h3 to hto]
  refine ⟨pk_in to 5 hto, pk_eq (em_g S (12 + to)) 1 (fun z => nm_r wk_5k ?_) (fun z => ?_)⟩
  · rw [by_ct (by_be.mpr z)] at h0 hp
    cases e : em_o (Nat.ble 255 (em_g M 4)) (Nat.ble 255 (em_g S (72 + (5 * to + fr)))) with
    | true => rw [by_ct e] at h0; exact absurd rfl h0
    | false =>
      rw [by_cf e] at h0 hp
      obtain ⟨e1, e2⟩ := by_of.mp e
      have e1 := by_lef.mp e1
      have e2 := by_lef.mp e2
      rw [h17.2.1 4 (by omega), nI_clamp (show 5 * to + fr < 2 ^ 31 by omega), h15 (5 * to + fr) (by omega)]
      refine pk_eq so 7 (fun q => ⟨vp_in_nI (by omega) (by decide), nm_e ?_⟩) (fun q => ⟨vp_in_nI (by omega) (by decide), pk_le (em_g M 4) (em_g S (72 + (5 * to + fr))) (fun z2 => ⟨vp_in_nI (by omega) (by decide), ?_⟩) (fun z2 => ?_)⟩)
      · rw [by_ct (by_be.mpr q)] at h0 hp
        obtain ⟨b1, b2, b3⟩ := by_b h0
        rw [b3] at hp
        have r := ra_u14 h' (show 5 * to + fr < 25 by omega) (show em_g M 4 + 1 < 256 by omega)
        rw [nI_1]
        refine wk_sendTo r hto hfr b2 (fun u' hu => ?_)
        obtain ⟨f1, f2, f3, f4, a1, a2, a3, a4, a5, a6, a7, a8, a9, a10, a11, a12, a13, a14, a15, a16, a17⟩ := u'
        exact hp _ hu
      · rw [by_cf (by_bef.mpr q), by_ct (by_le.mpr z2)] at h0 hp
        obtain ⟨b1, b2, b3⟩ := by_b h0
        rw [b3] at hp
        refine wk_hear_84 h' hfr hto e2 ?_ ?_
        · rw [by_self]; exact b2
        · rw [by_self]; exact hp
      · rw [by_cf (by_bef.mpr q), by_cf (by_lef.mpr z2)] at h0 hp
        obtain ⟨b1, b2, b3⟩ := by_b h0
        rw [b3] at hp
        exact wk_hear_84 h' hfr hto e1 b2 hp
  · rw [by_cf (by_bef.mpr z)] at hp
    exact hp _ h'
theorem wk_vote : ∀ fr, fr < 5 → (1 : Int32) <<< (nI fr &&& 31) = nI (1 <<< fr) := by decide +kernel
theorem wk_or : ∀ v, v < 256 → ∀ fr, fr < 5 → nI v ||| nI (1 <<< fr) = nI (v ||| 1 <<< fr) := by decide +kernel
theorem wk_or256 : ∀ v, v < 256 → ∀ fr, fr < 5 → v ||| 1 <<< fr < 256 := by decide +kernel
theorem wk_deliver_37 {f1 f2 f3 f4 : Int32} {a1 a2 a3 a4 a5 a6 a7 a8 a9 a10 a11 a12 a13 a14 a15 a16 a17 : Nat → Int32} {fr to : Nat} {post : St2 → Prop} (h : ra_R P M S (f1, f2, f3, f4, a1, a2, a3, a4, a5, a6, a7, a8, a9, a10, a11, a12, a13, a14, a15, a16, a17)) (hfr : fr < 5) (hto : to < 5) (hp : ∀ u', ra_R P M (em_vt S fr to) u' → post u') : wX_deliver_37 post (nI fr) (nI to) f1 f2 f3 f4 a1 a2 a3 a4 a5 a6 a7 a8 a9 a10 a11 a12 a13 a14 a15 a16 a17 := by
  have h' := h
  obtain ⟨hP, hF, h1, h2, h3, h4, h5, h6, h7, h8, h9, hn, h10, h11, h12, h14, h15, h16, h17⟩ := h
  have E : em_vt S fr to = em_s S (27 + to) (em_g S (27 + to) ||| 1 <<< fr) := rfl
  rw [E] at hp
  unfold wX_deliver_37
  rw [nI_clamp (show to < 2 ^ 31 by omega), h6 to hto, wk_vote fr hfr, wk_or _ (by_lt _ _) fr hfr]
  exact ⟨pk_in to 5 hto, pk_in to 5 hto, nm_e (hp _ (ra_u6 h' hto (wk_or256 _ (by_lt _ _) fr hfr)))⟩
theorem wk_deliver {so fr to : Nat} {post : St2 → Prop} (h : ra_R P M S u) (hso : so < 256) (hfr : fr < 5) (hto : to < 5) (h0 : em_dv S M so fr to ≠ 0) (hp : ∀ u', ra_R P M (em_dv S M so fr to) u' → post u') : wpX_deliver post u (nI so) (nI fr) (nI to) := by
  have h' := h
  obtain ⟨f1, f2, f3, f4, a1, a2, a3, a4, a5, a6, a7, a8, a9, a10, a11, a12, a13, a14, a15, a16, a17⟩ := u
  have E : em_dv S M so fr to = em_c (Nat.beq so 1) (em_c (em_ut S M to) (em_po S 2 to fr 0 0 0) S)
    (em_c (Nat.beq so 2) (em_vt S fr to) (em_c (Nat.beq so 4) (em_vt S fr to) (em_c (Nat.beq so 3) (em_el S M fr to) (em_c (Nat.beq so 5) (em_ae S M fr to) (em_c (Nat.beq so 8) 0 (em_he S M so fr to)))))) := rfl
  rw [E] at h0 hp
  unfold wpX_deliver
  dsimp only
  refine pk_eq so 1 (fun z => ?_) (fun z => ?_)
  · rw [by_ct (by_be.mpr z)] at h0 hp
    refine wk_isUpToDate h' hto (fun q => br_f (by decide) ?_) (fun q => br_t rfl ?_)
    · rw [by_ct q] at h0 hp
      refine wk_post (so := 2) (x := 0) (y := 0) (z := 0) h' h0 (by omega) hto hfr (by omega) (by omega) (by omega) (fun u' hu => ?_)
      obtain ⟨f1, f2, f3, f4, a1, a2, a3, a4, a5, a6, a7, a8, a9, a10, a11, a12, a13, a14, a15, a16, a17⟩ := u'
      exact hp _ hu
    · rw [by_cf q] at hp
      exact hp _ h'
  · rw [by_cf (by_bef.mpr z)] at h0 hp
    refine pk_eq so 2 (fun z => ?_) (fun z => ?_)
    · rw [by_ct (by_be.mpr z)] at hp
      exact wk_deliver_37 h' hfr hto hp
    · rw [by_cf (by_bef.mpr z)] at h0 hp
      refine pk_eq so 4 (fun z => ?_) (fun z => ?_)
      · rw [by_ct (by_be.mpr z)] at hp
        exact wk_deliver_37 h' hfr hto hp
      · rw [by_cf (by_bef.mpr z)] at h0 hp
        refine pk_eq so 3 (fun z => ?_) (fun z => ?_)
        · rw [by_ct (by_be.mpr z)] at h0 hp
          refine wk_elect h' hfr hto h0 (fun u' hu => ?_)
          obtain ⟨f1, f2, f3, f4, a1, a2, a3, a4, a5, a6, a7, a8, a9, a10, a11, a12, a13, a14, a15, a16, a17⟩ := u'
          exact hp _ hu
        · rw [by_cf (by_bef.mpr z)] at h0 hp
          refine pk_eq so 5 (fun z => ?_) (fun z => ?_)
          · rw [by_ct (by_be.mpr z)] at h0 hp
            refine wk_append h' hfr hto h0 (fun u' hu => ?_)
            obtain ⟨f1, f2, f3, f4, a1, a2, a3, a4, a5, a6, a7, a8, a9, a10, a11, a12, a13, a14, a15, a16, a17⟩ := u'
            exact hp _ hu
          · rw [by_cf (by_bef.mpr z)] at h0 hp
            refine pk_eq so 8 (fun z => ?_) (fun z => ?_)
            · rw [by_ct (by_be.mpr z)] at h0
              exact absurd rfl h0
            · rw [by_cf (by_bef.mpr z)] at h0 hp
              refine wk_hear h' hso hfr hto h0 (fun u' hu => ?_)
              obtain ⟨f1, f2, f3, f4, a1, a2, a3, a4, a5, a6, a7, a8, a9, a10, a11, a12, a13, a14, a15, a16, a17⟩ := u'
              exact hp _ hu
end
end
section
/-! ===== all messages delivered; spreading; giving up ===== -/
section
variable {P : ra_P}
theorem wk_dl18 {M S : Nat} {f1 f2 f3 f4 : Int32} {a1 a2 a3 a4 a5 a6 a7 a8 a9 a10 a11 a12 a13 a14 a15 a16 a17 : Nat → Int32} {x : Nat} {post : St2 → Prop} {J : Int32 → Int32 → Int32 → Int32 → Int32 → (Nat → Int32) → (Nat → Int32) → (Nat → Int32) → (Nat → Int32) → (Nat → Int32) → (Nat → Int32) → (Nat → Int32) → (Nat → Int32) → (Nat → Int32) → (Nat → Int32) → (Nat → Int32) → (Nat → Int32) → (Nat → Int32) → (Nat → Int32) → (Nat → Int32) → (Nat → Int32) → (Nat → Int32) → Prop} (h : ra_R P M S (f1, f2, f3, f4, a1, a2, a3, a4, a5, a6, a7, a8, a9, a10, a11, a12, a13, a14, a15, a16, a17))
    (h0 : em_dl (em_pp S) (em_rb S (em_g S 0)) ≠ 0) (hJ : ∀ {f1 f2 f3 f4 : Int32} {a1 a2 a3 a4 a5 a6 a7 a8 a9 a10 a11 a12 a13 a14 a15 a16 a17 : Nat → Int32}, ra_R P (em_rb S (em_g S 0)) (em_dl (em_pp S) (em_rb S (em_g S 0))) (f1, f2, f3, f4, a1, a2, a3, a4, a5, a6, a7, a8, a9, a10, a11, a12, a13, a14, a15, a16, a17) → J (nI (x + 1)) f1 f2 f3 f4 a1 a2 a3 a4 a5 a6 a7 a8 a9 a10 a11 a12 a13 a14 a15 a16 a17) (hw : em_g S 1 ≠ 0) :
    ∀ f k (b : Nat → Int32), k + f = 16 → (∀ c, c < k → b c = a16 (16 * em_g S 0 + c)) → wX_deliverAll_18 post J (nI x) f1 f2 f3 f4 (f + 1) (nI k) a1 a2 a3 a4 a5 a6 a7 a8 a9 a10 a11 a12 a13 a14 a15 a16 b := by
  intro f
  have h' := h
  obtain ⟨hP, hF, h1, h2, h3, h4, h5, h6, h7, h8, h9, hn, h10, h11, h12, h14, h15, h16, h17⟩ := h
  obtain ⟨e1, e2, e3, e4, e5, e6⟩ := hF
  induction f with
  | zero =>
    intro k b e g
    have : k = 16 := by omega
    subst this
    have r := ra_pop h' g
    have hr := r
    obtain ⟨hP, hF, h1, h2, h3, h4, h5, h6, h7, h8, h9, hn, h10, h11, h12, h14, h15, h16, h17⟩ := hr
    have E : ∀ T : Nat, em_dl T (em_rb S (em_g S 0)) = em_c (em_jo T (em_g (em_rb S (em_g S 0)) 1) (em_g (em_rb S (em_g S 0)) 2)) (em_dv T (em_rb S (em_g S 0)) (em_g (em_rb S (em_g S 0)) 0) (em_g (em_rb S (em_g S 0)) 1) (em_g (em_rb S (em_g S 0)) 2)) T := by
      intro T
      show em_f _ _ = _
      rw [by_f, by_f, by_f]
    rw [E] at h0 hJ
    have m1 := h17.1.1
    have m2 := h17.1.2
    refine br_t (by decide) ⟨by decide, nm_r (e' := nI ((em_g S 0 + 1) % 64)) ?_ (nm_r (e' := nI (em_g S 1 - 1)) ?_ ?_)⟩
    · rw [e1, nI_1, show (64 : Int32) = nI 64 from rfl, pk_rem (by omega) (by omega) (by omega)]
    · rw [e3, show em_g S 1 = em_g S 1 - 1 + 1 by omega, nI_pred, show em_g S 1 - 1 + 1 - 1 = em_g S 1 - 1 by omega]
    rw [h17.2.1 0 (by omega), h17.2.1 1 (by omega), h17.2.1 2 (by omega)]
    refine wk_areJoined r m1 m2 (fun q => br_f (by decide) ?_) (fun q => br_t rfl (nm_r (nI_1 x) ?_))
    · rw [by_ct q] at h0 hJ
      refine wk_deliver r (by_lt _ _) m1 m2 h0 (fun u' hu => ?_)
      obtain ⟨f1, f2, f3, f4, a1, a2, a3, a4, a5, a6, a7, a8, a9, a10, a11, a12, a13, a14, a15, a16, a17⟩ := u'
      exact nm_r (nI_1 x) (hJ hu)
    · rw [by_cf q] at hJ
      exact hJ r
  | succ f ih =>
    intro k b e g
    refine pk_le 16 k (fun z => absurd z (by omega)) (fun z => ?_)
    rw [e1, wk_16, pk_mul, nI_add, nI_clamp (show 16 * em_g S 0 + k < 2 ^ 31 by omega), nI_clamp (show k < 2 ^ 31 by omega)]
    have t := ih (k + 1) (upd b k (a16 (16 * em_g S 0 + k))) (by omega) (fun c hc => by
      by_cases ec : c = k
      · rw [ec, pk_us]
      · rw [pk_un ec]
        exact g c (by omega))
    rw [e1] at t
    exact ⟨vp_in_nI (by omega) (by decide), pk_in k 16 z, nm_e (nm_r (nI_1 k) t)⟩
theorem wk_daE (f S : Nat) : em_da (f + 1) S = em_c (Nat.beq (em_g S 1) 0) S (em_b (em_rb S (em_g S 0)) (fun M => em_b (em_pp S) (fun S1 => em_b (em_dl S1 M) (em_da f)))) := rfl
theorem wk_da2 {post : St2 → Prop} : ∀ (f k S M : Nat) {f1 f2 f3 f4 : Int32} {a1 a2 a3 a4 a5 a6 a7 a8 a9 a10 a11 a12 a13 a14 a15 a16 a17 : Nat → Int32}, ra_R P M S (f1, f2, f3, f4, a1, a2, a3, a4, a5, a6, a7, a8, a9, a10, a11, a12, a13, a14, a15, a16, a17) → em_da f S ≠ 0 → k + f < 5000 → (∀ M' u', ra_R P M' (em_da f S) u' → post u') → wX_deliverAll_2 post f (nI k) f1 f2 f3 f4 a1 a2 a3 a4 a5 a6 a7 a8 a9 a10 a11 a12 a13 a14 a15 a16 a17 := by
  intro f
  induction f with
  | zero =>
    intro k S M f1 f2 f3 f4 a1 a2 a3 a4 a5 a6 a7 a8 a9 a10 a11 a12 a13 a14 a15 a16 a17 h h0 hk hp
    exact absurd rfl h0
  | succ f ih =>
    intro k S M f1 f2 f3 f4 a1 a2 a3 a4 a5 a6 a7 a8 a9 a10 a11 a12 a13 a14 a15 a16 a17 h h0 hk hp
    have h' := h
    obtain ⟨hP, hF, h1, h2, h3, h4, h5, h6, h7, h8, h9, hn, h10, h11, h12, h14, h15, h16, h17⟩ := h
    obtain ⟨e1, e2, e3, e4, e5, e6⟩ := hF
    rw [wk_daE] at h0 hp
    refine br_f (nI_ge (b := 5000) (by omega) (by decide)) (pk_le (em_g S 1) 0 (fun z => ?_) (fun z => ?_) e3)
    · rw [by_ct (by_be.mpr (by omega))] at hp
      exact hp _ _ h'
    · rw [by_cf (by_bef.mpr (by omega))] at h0 hp
      obtain ⟨b1, b2, b3⟩ := by_b h0
      rw [b3] at hp
      obtain ⟨c1, c2, c3⟩ := by_b b2
      rw [c3] at hp
      obtain ⟨d1, d2, d3⟩ := by_b c2
      rw [d3] at hp
      exact ⟨17, wk_dl18 h' d1 (fun hu => ih _ _ _ hu d2 (by omega) hp) (by omega) 16 0 _ rfl (fun c hc => absurd hc (by omega))⟩
theorem wk_deliverAll {M S : Nat} {u : St2} {post : St2 → Prop} (h : ra_R P M S u) (h0 : em_da 60 S ≠ 0) (hp : ∀ M' u', ra_R P M' (em_da 60 S) u' → post u') : wpX_deliverAll post u := by
  obtain ⟨f1, f2, f3, f4, a1, a2, a3, a4, a5, a6, a7, a8, a9, a10, a11, a12, a13, a14, a15, a16, a17⟩ := u
  exact ⟨60, wk_da2 60 0 S M h h0 (by decide) hp⟩
theorem wk_bit : ∀ o, o < 5 → ((31 : Int32) >>> (nI o &&& 31)) &&& 1 = 1 := by decide +kernel
theorem wk_sa_step {M S : Nat} {f1 f2 f3 f4 : Int32} {a1 a2 a3 a4 a5 a6 a7 a8 a9 a10 a11 a12 a13 a14 a15 a16 a17 : Nat → Int32} {n o f : Nat} {post : St2 → Prop} (h : ra_R P M S (f1, f2, f3, f4, a1, a2, a3, a4, a5, a6, a7, a8, a9, a10, a11, a12, a13, a14, a15, a16, a17)) (hk : n < 5) (ho : o < 5) (h0 : em_s1 S n o ≠ 0)
    (hJ : ∀ {f1 f2 f3 f4 : Int32} {a1 a2 a3 a4 a5 a6 a7 a8 a9 a10 a11 a12 a13 a14 a15 a16 a17 : Nat → Int32}, ra_R P M (em_s1 S n o) (f1, f2, f3, f4, a1, a2, a3, a4, a5, a6, a7, a8, a9, a10, a11, a12, a13, a14, a15, a16, a17) → wX_sendAll_8 post (nI n) 31 f (nI (o + 1)) f1 f2 f3 f4 a1 a2 a3 a4 a5 a6 a7 a8 a9 a10 a11 a12 a13 a14 a15 a16 a17) : wX_sendAll_8 post (nI n) 31 (f + 1) (nI o) f1 f2 f3 f4 a1 a2 a3 a4 a5 a6 a7 a8 a9 a10 a11 a12 a13 a14 a15 a16 a17 := by
  have E : em_s1 S n o = em_c (Nat.beq o n) S (em_se S n o) := rfl
  rw [E] at h0 hJ
  refine pk_le 5 o (fun z => absurd z (by omega)) (fun z => pk_eq o n (fun q => nm_r (nI_1 o) ?_) (fun q => br_t (wk_bit o ho) ?_))
  · rw [by_ct (by_be.mpr q)] at hJ
    exact hJ h
  · rw [by_cf (by_bef.mpr q)] at h0 hJ
    refine wk_sendTo h hk ho h0 (fun u' hu => ?_)
    obtain ⟨f1, f2, f3, f4, a1, a2, a3, a4, a5, a6, a7, a8, a9, a10, a11, a12, a13, a14, a15, a16, a17⟩ := u'
    exact nm_r (nI_1 o) (hJ hu)
theorem wk_sendAll {M S n : Nat} {u : St2} {post : St2 → Prop} (h : ra_R P M S u) (hk : n < 5) (h0 : em_sa S n ≠ 0) (hp : ∀ u', ra_R P M (em_sa S n) u' → post u') : wpX_sendAll post u (nI n) := by
  obtain ⟨f1, f2, f3, f4, a1, a2, a3, a4, a5, a6, a7, a8, a9, a10, a11, a12, a13, a14, a15, a16, a17⟩ := u
  have E : em_sa S n = em_b (em_s1 S n 0) (fun S => em_b (em_s1 S n 1) (fun S => em_b (em_s1 S n 2) (fun S => em_b (em_s1 S n 3) (fun S => em_s1 S n 4)))) := rfl
  rw [E] at h0 hp
  obtain ⟨b1, h1, e1⟩ := by_b h0
  rw [e1] at hp
  obtain ⟨b2, h2, e2⟩ := by_b h1
  rw [e2] at hp
  obtain ⟨b3, h3, e3⟩ := by_b h2
  rw [e3] at hp
  obtain ⟨b4, h4, e4⟩ := by_b h3
  rw [e4] at hp
  unfold wpX_sendAll
  dsimp only
  refine wk_membersFor h hk ⟨6, wk_sa_step (o := 0) h hk (by omega) b1 (fun g1 => wk_sa_step (o := 1) g1 hk (by omega) b2 (fun g2 => wk_sa_step (o := 2) g2 hk (by omega) b3 (fun g3 => wk_sa_step (o := 3) g3 hk (by omega) b4 (fun g4 => wk_sa_step (o := 4) g4 hk (by omega) h4 (fun g5 => br_t (by decide) (hp _ g5))))))⟩
theorem wk_spread {M S n : Nat} {u : St2} {post : St2 → Prop} (h : ra_R P M S u) (hk : n < 5) (h0 : em_sp S n ≠ 0) (hp : ∀ M' u', ra_R P M' (em_sp S n) u' → post u') : wpX_spread post u (nI n) := by
  obtain ⟨f1, f2, f3, f4, a1, a2, a3, a4, a5, a6, a7, a8, a9, a10, a11, a12, a13, a14, a15, a16, a17⟩ := u
  have E : em_sp S n = em_b (em_cm S n) (fun S1 => em_b (em_sa S1 n) (fun S2 => em_da 60 S2)) := rfl
  rw [E] at h0 hp
  obtain ⟨b1, h1, e1⟩ := by_b h0
  rw [e1] at hp
  obtain ⟨b2, h2, e2⟩ := by_b h1
  rw [e2] at hp
  unfold wpX_spread
  dsimp only
  refine wk_countMost h hk b1 (fun u' hu => ?_)
  obtain ⟨f1, f2, f3, f4, a1, a2, a3, a4, a5, a6, a7, a8, a9, a10, a11, a12, a13, a14, a15, a16, a17⟩ := u'
  dsimp only
  refine wk_sendAll hu hk b2 (fun u' hu => ?_)
  obtain ⟨f1, f2, f3, f4, a1, a2, a3, a4, a5, a6, a7, a8, a9, a10, a11, a12, a13, a14, a15, a16, a17⟩ := u'
  dsimp only
  refine wk_deliverAll hu h2 (fun M' u' hu => ?_)
  obtain ⟨f1, f2, f3, f4, a1, a2, a3, a4, a5, a6, a7, a8, a9, a10, a11, a12, a13, a14, a15, a16, a17⟩ := u'
  exact hp _ _ hu
theorem wk_upd_self (a : Nat → Int32) (k : Nat) : upd a k (a k) = a := by
  funext j
  by_cases e : j = k
  · rw [e, pk_us]
  · rw [pk_un e]
theorem wk_gu_step {M S : Nat} {f1 f2 f3 f4 : Int32} {a1 a2 a3 a4 a5 a6 a7 a8 a9 a10 a11 a12 a13 a14 a15 a16 a17 : Nat → Int32} {n f : Nat} {post : St2 → Prop} (h : ra_R P M S (f1, f2, f3, f4, a1, a2, a3, a4, a5, a6, a7, a8, a9, a10, a11, a12, a13, a14, a15, a16, a17)) (hk : n < 5)
    (hJ : ∀ b : Nat → Int32, ra_R P M (em_g1 S n) (f1, f2, f3, f4, a1, a2, b, a4, a5, a6, a7, a8, a9, a10, a11, a12, a13, a14, a15, a16, a17) → wX_giveUp_2 post f1 f2 f3 f4 f (nI (n + 1)) a1 a2 b a4 a5 a6 a7 a8 a9 a10 a11 a12 a13 a14 a15 a16 a17) : wX_giveUp_2 post f1 f2 f3 f4 (f + 1) (nI n) a1 a2 a3 a4 a5 a6 a7 a8 a9 a10 a11 a12 a13 a14 a15 a16 a17 := by
  have h' := h
  obtain ⟨hP, hF, h1, h2, h3, h4, h5, h6, h7, h8, h9, hn, h10, h11, h12, h14, h15, h16, h17⟩ := h
  have E : em_g1 S n = em_c (em_a (Nat.ble 1 (em_g S (2 + n))) (em_mj (em_re S n))) S (em_s S (12 + n) 0) := rfl
  rw [E] at hJ
  have l2 := by_lt S (2 + n)
  have K : em_a (Nat.ble 1 (em_g S (2 + n))) (em_mj (em_re S n)) = false → wX_giveUp_49 post (wX_giveUp_2 post f1 f2 f3 f4 f) (nI n) f1 f2 f3 f4 a1 a2 a3 a4 a5 a6 a7 a8 a9 a10 a11 a12 a13 a14 a15 a16 a17 := by
    intro e
    rw [by_cf e] at hJ
    unfold wX_giveUp_49 wX_giveUp_50
    rw [nI_clamp (show n < 2 ^ 31 by omega)]
    exact br_t rfl ⟨pk_in n 5 hk, nm_e (nm_r (nI_1 n) (hJ _ (ra_u3 h' hk (by decide))))⟩
  refine pk_le 5 n (fun z => absurd z (by omega)) (fun z => wk_membersFor h' hk (wk_reachedBy h' hk ⟨pk_in n 5 hk, ?_⟩))
  rw [nI_clamp (show n < 2 ^ 31 by omega), h1 n hk]
  refine pk_eq (em_g S (2 + n)) 0 (fun q => K (by_af.mpr (Or.inl (by_lef.mpr (by omega))))) (fun q => br_t (wk_bit n hk) (wk_isMost5 (by rw [wk_re]; exact wk_mk_32 (Nat.le_refl 5)) (fun q2 => br_f (by decide) ?_) (fun q2 => br_t rfl (K (by_af.mpr (Or.inr q2))))))
  rw [by_ct (by_a.mpr ⟨by_le.mpr (by omega), q2⟩)] at hJ
  unfold wX_giveUp_50
  rw [nI_clamp (show n < 2 ^ 31 by omega)]
  exact br_f (by decide) ⟨pk_in n 5 hk, pk_in n 5 hk, nm_r (wk_upd_self a3 n) (nm_r (nI_1 n) (hJ _ h'))⟩
theorem wk_giveUp {M S : Nat} {u : St2} {post : St2 → Prop} (h : ra_R P M S u) (h0 : em_gu S ≠ 0) (hp : ∀ u', ra_R P M (em_gu S) u' → post u') : wpX_giveUp post u := by
  obtain ⟨f1, f2, f3, f4, a1, a2, a3, a4, a5, a6, a7, a8, a9, a10, a11, a12, a13, a14, a15, a16, a17⟩ := u
  have E : em_gu S = em_b (em_g1 S 0) (fun S => em_b (em_g1 S 1) (fun S => em_b (em_g1 S 2) (fun S => em_b (em_g1 S 3) (fun S => em_g1 S 4)))) := rfl
  rw [E] at h0 hp
  obtain ⟨b1, h1, e1⟩ := by_b h0
  rw [e1] at hp
  obtain ⟨b2, h2, e2⟩ := by_b h1
  rw [e2] at hp
  obtain ⟨b3, h3, e3⟩ := by_b h2
  rw [e3] at hp
  obtain ⟨b4, h4, e4⟩ := by_b h3
  rw [e4] at hp
  exact ⟨6, wk_gu_step (n := 0) h (by omega) (fun _ g1 => wk_gu_step (n := 1) g1 (by omega) (fun _ g2 => wk_gu_step (n := 2) g2 (by omega) (fun _ g3 => wk_gu_step (n := 3) g3 (by omega) (fun _ g4 => wk_gu_step (n := 4) g4 (by omega) (fun _ g5 => br_t (by decide) (hp _ g5))))))⟩
end
end
section
/-! ===== elections, settling ===== -/
section
variable {P : ra_P}
theorem wk_nar0 : narrow .boolean (.int (0 : Int32)) = .int (0 : Int32) := by rfl
theorem wk_nar1 : narrow .boolean (.int (1 : Int32)) = .int (1 : Int32) := by rfl
theorem wk_as_step {M S : Nat} {f1 f2 f3 f4 : Int32} {a1 a2 a3 a4 a5 a6 a7 a8 a9 a10 a11 a12 a13 a14 a15 a16 a17 : Nat → Int32} {n so o f : Nat} {post : Int32 → St2 → Prop} (h : ra_R P M S (f1, f2, f3, f4, a1, a2, a3, a4, a5, a6, a7, a8, a9, a10, a11, a12, a13, a14, a15, a16, a17)) (hk : n < 5) (hso : so < 256) (ho : o < 5) (h0 : em_q1 S n so o ≠ 0)
    (hJ : ∀ {f1 f2 f3 f4 : Int32} {a1 a2 a3 a4 a5 a6 a7 a8 a9 a10 a11 a12 a13 a14 a15 a16 a17 : Nat → Int32}, ra_R P M (em_q1 S n so o) (f1, f2, f3, f4, a1, a2, a3, a4, a5, a6, a7, a8, a9, a10, a11, a12, a13, a14, a15, a16, a17) → wX_asks_18 post (nI n) (nI so) 31 f (nI (o + 1)) f1 f2 f3 f4 a1 a2 a3 a4 a5 a6 a7 a8 a9 a10 a11 a12 a13 a14 a15 a16 a17) : wX_asks_18 post (nI n) (nI so) 31 (f + 1) (nI o) f1 f2 f3 f4 a1 a2 a3 a4 a5 a6 a7 a8 a9 a10 a11 a12 a13 a14 a15 a16 a17 := by
  have h' := h
  obtain ⟨hP, hF, h1, h2, h3, h4, h5, h6, h7, h8, h9, hn, h10, h11, h12, h14, h15, h16, h17⟩ := h
  have l16 := hn n hk
  have E : em_q1 S n so o = em_c (Nat.beq o n) S (em_po S so n o (em_g S (32 + n)) (em_ta S n (em_g S (32 + n))) 0) := rfl
  rw [E] at h0 hJ
  refine pk_le 5 o (fun z => absurd z (by omega)) (fun z => pk_eq o n (fun q => nm_r (nI_1 o) ?_) (fun q => br_t (wk_bit o ho) (wk_lastOf h' hk (wk_termAt h' hk (Nat.le_refl _) ?_))))
  · rw [by_ct (by_be.mpr q)] at hJ
    exact hJ h'
  · rw [by_cf (by_bef.mpr q)] at h0 hJ
    refine wk_post (z := 0) h' h0 hso hk ho (by_lt _ _) (wk_ta_lt _ _) (by omega) (fun u' hu => ?_)
    obtain ⟨f1, f2, f3, f4, a1, a2, a3, a4, a5, a6, a7, a8, a9, a10, a11, a12, a13, a14, a15, a16, a17⟩ := u'
    exact nm_r (nI_1 o) (hJ hu)
theorem wk_asks {M S n so : Nat} {u : St2} {post : Int32 → St2 → Prop} (h : ra_R P M S u) (hk : n < 5) (hso : so < 256) (h0 : em_as S n so ≠ 0)
    (ht : ∀ M' u', ra_R P M' (em_as S n so) u' → em_mj (em_g (em_as S n so) (27 + n) % 32) = true → post 1 u')
    (hf : ∀ M' u', ra_R P M' (em_as S n so) u' → em_mj (em_g (em_as S n so) (27 + n) % 32) = false → post 0 u') : wpX_asks post u (nI n) (nI so) := by
  obtain ⟨f1, f2, f3, f4, a1, a2, a3, a4, a5, a6, a7, a8, a9, a10, a11, a12, a13, a14, a15, a16, a17⟩ := u
  have E : em_as S n so = em_b (em_s S (27 + n) (1 <<< n)) (fun S => em_b (em_q1 S n so 0) (fun S => em_b (em_q1 S n so 1) (fun S => em_b (em_q1 S n so 2) (fun S => em_b (em_q1 S n so 3) (fun S => em_b (em_q1 S n so 4) (fun S => em_da 60 S)))))) := rfl
  have v : 1 <<< n < 256 := by
    have := wk_or256 0 (by decide) n hk
    rw [Nat.zero_or] at this
    exact this
  rw [E] at h0 ht hf
  obtain ⟨b0, h0, e0⟩ := by_b h0
  rw [e0] at ht hf
  obtain ⟨b1, h1, e1⟩ := by_b h0
  rw [e1] at ht hf
  obtain ⟨b2, h2, e2⟩ := by_b h1
  rw [e2] at ht hf
  obtain ⟨b3, h3, e3⟩ := by_b h2
  rw [e3] at ht hf
  obtain ⟨b4, h4, e4⟩ := by_b h3
  rw [e4] at ht hf
  obtain ⟨b5, h5, e5⟩ := by_b h4
  rw [e5] at ht hf
  unfold wpX_asks
  dsimp only
  rw [nI_clamp (show n < 2 ^ 31 by omega), wk_vote n hk]
  refine wk_membersFor h hk ⟨pk_in n 5 hk, nm_e ⟨6, wk_as_step (o := 0) (ra_u6 h hk v) hk hso (by omega) b1 (fun g1 => wk_as_step (o := 1) g1 hk hso (by omega) b2 (fun g2 => wk_as_step (o := 2) g2 hk hso (by omega) b3 (fun g3 => wk_as_step (o := 3) g3 hk hso (by omega) b4 (fun g4 => wk_as_step (o := 4) g4 hk hso (by omega) b5 (fun g5 => br_t (by decide) (wk_deliverAll g5 h5 (fun M' u' hu => ?_)))))))⟩⟩
  obtain ⟨f1, f2, f3, f4, a1, a2, a3, a4, a5, a6, a7, a8, a9, a10, a11, a12, a13, a14, a15, a16, a17⟩ := u'
  dsimp only
  have hu' := hu
  obtain ⟨hP, hF, h1, h2, h3, h4, h5, h6, h7, h8, h9, hn, h10, h11, h12, h14, h15, h16, h17⟩ := hu
  rw [nI_clamp (show n < 2 ^ 31 by omega), h6 n hk]
  exact ⟨pk_in n 5 hk, wk_isMost (by_lt _ _) (fun q => ⟨wk_nar1, ht _ _ hu' q⟩) (fun q => ⟨wk_nar0, hf _ _ hu' q⟩)⟩
/-! writing an entry -/
theorem wk_wrE {S n c : Nat} (h0 : em_wr S n c ≠ 0) : em_g S (32 + n) < 16 ∧ em_wr S n c = em_s (em_s (em_s (em_s S (97 + 16 * n + em_g S (32 + n)) (em_g S (17 + n))) (177 + 16 * n + em_g S (32 + n)) c) (72 + (5 * n + n)) (em_g S (32 + n) + 1)) (32 + n) (em_g S (32 + n) + 1) := by
  have E : em_wr S n c = em_c (Nat.ble 16 (em_g S (32 + n))) 0 (em_s (em_s (em_s (em_s S (97 + (16 * n + em_g S (32 + n))) (em_g S (17 + n))) (177 + (16 * n + em_g S (32 + n))) c) (72 + 6 * n) (em_g S (32 + n) + 1)) (32 + n) (em_g S (32 + n) + 1)) := rfl
  rw [show 97 + (16 * n + em_g S (32 + n)) = 97 + 16 * n + em_g S (32 + n) by omega, show 177 + (16 * n + em_g S (32 + n)) = 177 + 16 * n + em_g S (32 + n) by omega, show 72 + 6 * n = 72 + (5 * n + n) by omega] at E
  cases e : Nat.ble 16 (em_g S (32 + n)) with
  | true => rw [E, by_ct e] at h0; exact absurd rfl h0
  | false => rw [E, by_cf e]; exact ⟨by_lef.mp e, rfl⟩
theorem wk_wr {M S : Nat} {f1 f2 f3 f4 : Int32} {a1 a2 a3 a4 a5 a6 a7 a8 a9 a10 a11 a12 a13 a14 a15 a16 a17 : Nat → Int32} {n c : Nat} {b : Nat → Int32} (h : ra_R P M S (f1, f2, f3, f4, a1, a2, a3, a4, a5, a6, a7, a8, a9, a10, a11, a12, a13, a14, a15, a16, a17)) (hk : n < 5) (hc : c < 256) (h0 : em_wr S n c ≠ 0)
    (g1 : ∀ i, i < 7 → b (7 * (16 * n + em_g S (32 + n)) + i) = ra_e P (em_g S (17 + n)) c i) (g2 : ∀ i, (i < 7 * (16 * n + em_g S (32 + n)) ∨ 7 * (16 * n + em_g S (32 + n)) + 7 ≤ i) → b i = a10 i) :
    ra_R P M (em_wr S n c) (f1, f2, f3, f4, a1, a2, a3, a4, a5, a6, a7, a8, upd a9 n (nI (em_g S (32 + n) + 1)), b, a11, a12, a13, a14, upd a15 (5 * n + n) (nI (em_g S (32 + n) + 1)), a16, a17) := by
  obtain ⟨he, E⟩ := wk_wrE h0
  have h' := h
  obtain ⟨hP, hF, h1, h2, h3, h4, h5, h6, h7, h8, h9, hn, h10, h11, h12, h14, h15, h16, h17⟩ := h
  have lt := by_lt S (17 + n)
  rw [E]
  generalize em_g S (17 + n) = te at *
  have r2 := ra_u10 (a := b) h' (fun m i c z1 z2 z3 => g2 _ (by
    by_cases e : m = n
    · subst e
      omega
    · have := hn m z1
      omega))
  have r3 := ra_uLt r2 hk (Nat.le_refl _) he lt
  have r4 := ra_uLc r3 hk (by rw [by_ne lt (by omega)]; exact Nat.le_refl _) he hc
  have r5 := ra_u15 r4 (show 5 * n + n < 25 by omega) (show em_g S (32 + n) + 1 < 256 by omega)
  refine ra_u9 r5 hk (show em_g S (32 + n) + 1 ≤ 16 by omega) (fun i c' z1 z2 => ?_)
  by_cases e : i = em_g S (32 + n)
  · rw [e, g1 c' z2, by_ne (by omega) (by omega), by_ne hc (by omega), by_eq lt, by_ne (by omega) (by omega), by_eq hc]
  · rw [g2 _ (by omega), h10 n i c' hk (by omega) z2, by_ne (by omega) (by omega), by_ne hc (by omega), by_ne lt (by omega), by_ne (by omega) (by omega), by_ne hc (by omega), by_ne lt (by omega)]
theorem wk_u7 (a : Nat → Int32) (k : Nat) (v0 v1 v2 v3 v4 v5 v6 : Int32) :
    (fun b : Nat → Int32 => b k = v0 ∧ b (k + 1) = v1 ∧ b (k + 2) = v2 ∧ b (k + 3) = v3 ∧ b (k + 4) = v4 ∧ b (k + 5) = v5 ∧ b (k + 6) = v6 ∧ ∀ j, (j < k ∨ k + 7 ≤ j) → b j = a j)
      (upd (upd (upd (upd (upd (upd (upd a k v0) (k + 1) v1) (k + 2) v2) (k + 3) v3) (k + 4) v4) (k + 5) v5) (k + 6) v6) := by
  refine ⟨?_, ?_, ?_, ?_, ?_, ?_, ?_, ?_⟩
  · rw [pk_un (by omega), pk_un (by omega), pk_un (by omega), pk_un (by omega), pk_un (by omega), pk_un (by omega), pk_us]
  · rw [pk_un (by omega), pk_un (by omega), pk_un (by omega), pk_un (by omega), pk_un (by omega), pk_us]
  · rw [pk_un (by omega), pk_un (by omega), pk_un (by omega), pk_un (by omega), pk_us]
  · rw [pk_un (by omega), pk_un (by omega), pk_un (by omega), pk_us]
  · rw [pk_un (by omega), pk_un (by omega), pk_us]
  · rw [pk_un (by omega), pk_us]
  · rw [pk_us]
  · intro j hj
    rw [pk_un (by omega), pk_un (by omega), pk_un (by omega), pk_un (by omega), pk_un (by omega), pk_un (by omega), pk_un (by omega)]
theorem wk_write {M S : Nat} {f1 f2 f3 f4 : Int32} {a1 a2 a3 a4 a5 a6 a7 a8 a9 a10 a11 a12 a13 a14 a15 a16 a17 : Nat → Int32} {n : Nat} {p1 p2 p3 : Int32} {post : St2 → Prop} (h : ra_R P M S (f1, f2, f3, f4, a1, a2, a3, a4, a5, a6, a7, a8, a9, a10, a11, a12, a13, a14, a15, a16, a17)) (hk : n < 5) (he : em_g S (32 + n) < 16)
    (hp : ∀ b : Nat → Int32, (b (7 * (16 * n + em_g S (32 + n))) = nI (em_g S (17 + n)) ∧ b (7 * (16 * n + em_g S (32 + n)) + 1) = p1 ∧ b (7 * (16 * n + em_g S (32 + n)) + 2) = p2 ∧ b (7 * (16 * n + em_g S (32 + n)) + 3) = p3 ∧ b (7 * (16 * n + em_g S (32 + n)) + 4) = 0 ∧ b (7 * (16 * n + em_g S (32 + n)) + 5) = 0 ∧ b (7 * (16 * n + em_g S (32 + n)) + 6) = 0 ∧ ∀ j, (j < 7 * (16 * n + em_g S (32 + n)) ∨ 7 * (16 * n + em_g S (32 + n)) + 7 ≤ j) → b j = a10 j) →
      post (f1, f2, f3, f4, a1, a2, a3, a4, a5, a6, a7, a8, upd a9 n (nI (em_g S (32 + n) + 1)), b, a11, a12, a13, a14, upd a15 (5 * n + n) (nI (em_g S (32 + n) + 1)), a16, a17)) : wpX_write post (f1, f2, f3, f4, a1, a2, a3, a4, a5, a6, a7, a8, a9, a10, a11, a12, a13, a14, a15, a16, a17) (nI n) p1 p2 p3 := by
  obtain ⟨hP, hF, h1, h2, h3, h4, h5, h6, h7, h8, h9, hn, h10, h11, h12, h14, h15, h16, h17⟩ := h
  unfold wpX_write
  dsimp only
  refine wk_newEntry hk (h7 n hk) (h9 n hk) he ?_
  dsimp only
  rw [nI_clamp (show n < 2 ^ 31 by omega), nI_clamp (show 7 * (16 * n + em_g S (32 + n)) < 2 ^ 31 by omega), h4 n hk, show (2 : Int32) = nI 2 from rfl, show (3 : Int32) = nI 3 from rfl, show (4 : Int32) = nI 4 from rfl, show (5 : Int32) = nI 5 from rfl, show (6 : Int32) = nI 6 from rfl, nI_1, nI_add, nI_add, nI_add, nI_add, nI_add, pk_mul, nI_add,
    nI_clamp (show 7 * (16 * n + em_g S (32 + n)) + 1 < 2 ^ 31 by omega), nI_clamp (show 7 * (16 * n + em_g S (32 + n)) + 2 < 2 ^ 31 by omega), nI_clamp (show 7 * (16 * n + em_g S (32 + n)) + 3 < 2 ^ 31 by omega), nI_clamp (show 7 * (16 * n + em_g S (32 + n)) + 4 < 2 ^ 31 by omega), nI_clamp (show 7 * (16 * n + em_g S (32 + n)) + 5 < 2 ^ 31 by omega), nI_clamp (show 7 * (16 * n + em_g S (32 + n)) + 6 < 2 ^ 31 by omega), nI_clamp (show 5 * n + n < 2 ^ 31 by omega)]
  refine ⟨pk_in n 5 hk, vp_in_nI (by omega) (by decide), nm_e ⟨vp_in_nI (by omega) (by decide), nm_e ⟨vp_in_nI (by omega) (by decide), nm_e ⟨vp_in_nI (by omega) (by decide), nm_e ⟨vp_in_nI (by omega) (by decide), nm_e ⟨vp_in_nI (by omega) (by decide), nm_e ⟨vp_in_nI (by omega) (by decide), nm_e (wk_last2 hk (h7 n hk) pk_us ⟨vp_in_nI (by omega) (by decide), nm_e (hp _ (wk_u7 a10 (7 * (16 * n + em_g S (32 + n))) _ _ _ _ _ _ _))⟩)⟩⟩⟩⟩⟩⟩⟩
end
end
section
/-! ===== leading, standing, settling ===== -/
section
variable {P : ra_P}
theorem wk_ld_step {M S : Nat} {f1 f2 f3 f4 : Int32} {a1 a2 a3 a4 a5 a6 a7 a8 a9 a10 a11 a12 a13 a14 a15 a16 a17 : Nat → Int32} {n o f : Nat} {post : St2 → Prop} (h : ra_R P M S (f1, f2, f3, f4, a1, a2, a3, a4, a5, a6, a7, a8, a9, a10, a11, a12, a13, a14, a15, a16, a17)) (hk : n < 5) (ho : o < 5)
    (hJ : ∀ b c : Nat → Int32, ra_R P M (em_l1 S n o) (f1, f2, f3, f4, a1, a2, a3, a4, a5, a6, a7, a8, a9, a10, a11, a12, a13, b, c, a16, a17) → wX_lead_14 post (nI n) f1 f2 f3 f4 f (nI (o + 1)) a1 a2 a3 a4 a5 a6 a7 a8 a9 a10 a11 a12 a13 b c a16 a17) : wX_lead_14 post (nI n) f1 f2 f3 f4 (f + 1) (nI o) a1 a2 a3 a4 a5 a6 a7 a8 a9 a10 a11 a12 a13 a14 a15 a16 a17 := by
  have h' := h
  obtain ⟨hP, hF, h1, h2, h3, h4, h5, h6, h7, h8, h9, hn, h10, h11, h12, h14, h15, h16, h17⟩ := h
  have l16 := hn n hk
  have E : em_l1 S n o = em_s (em_s S (47 + (5 * n + o)) (em_g S (32 + n) + 1)) (72 + (5 * n + o)) 0 := rfl
  rw [E] at hJ
  refine pk_le 5 o (fun z => absurd z (by omega)) (fun z => wk_lastOf h' hk ?_)
  rw [wk_5k, nI_clamp (show 5 * n + o < 2 ^ 31 by omega), nI_1]
  exact ⟨vp_in_nI (by omega) (by decide), nm_e ⟨vp_in_nI (by omega) (by decide), nm_e (nm_r (nI_1 o) (hJ _ _ (ra_u15 (ra_u14 h' (by omega) (by omega)) (by omega) (by decide))))⟩⟩
theorem wk_lead {M S n : Nat} {u : St2} {post : St2 → Prop} (h : ra_R P M S u) (hk : n < 5) (h0 : em_ld S n ≠ 0) (hp : ∀ u', ra_R P M (em_ld S n) u' → post u') : wpX_lead post u (nI n) := by
  have h' := h
  obtain ⟨f1, f2, f3, f4, a1, a2, a3, a4, a5, a6, a7, a8, a9, a10, a11, a12, a13, a14, a15, a16, a17⟩ := u
  obtain ⟨hP, hF, h1, h2, h3, h4, h5, h6, h7, h8, h9, hn, h10, h11, h12, h14, h15, h16, h17⟩ := h
  obtain ⟨q1, q2, q3, q4, q5, q6⟩ := hF
  subst q5
  have E : em_ld S n = em_b (em_s S (12 + n) 1) (fun S => em_b (em_l1 S n 0) (fun S => em_b (em_l1 S n 1) (fun S => em_b (em_l1 S n 2) (fun S => em_b (em_l1 S n 3) (fun S => em_b (em_l1 S n 4) (fun S => em_wr S n 0)))))) := rfl
  rw [E] at h0 hp
  obtain ⟨b0, h0, e0⟩ := by_b h0
  rw [e0] at hp
  obtain ⟨b1, h1, e1⟩ := by_b h0
  rw [e1] at hp
  obtain ⟨b2, h2, e2⟩ := by_b h1
  rw [e2] at hp
  obtain ⟨b3, h3, e3⟩ := by_b h2
  rw [e3] at hp
  obtain ⟨b4, h4, e4⟩ := by_b h3
  rw [e4] at hp
  obtain ⟨b5, h5, e5⟩ := by_b h4
  rw [e5] at hp
  unfold wpX_lead
  dsimp only
  rw [nI_clamp (show n < 2 ^ 31 by omega)]
  refine ⟨pk_in n 5 hk, nm_e ⟨6, wk_ld_step (o := 0) (ra_u3 h' hk (v := 1) (by decide)) hk (by omega) (fun _ _ g1 => wk_ld_step (o := 1) g1 hk (by omega) (fun _ _ g2 => wk_ld_step (o := 2) g2 hk (by omega) (fun _ _ g3 => wk_ld_step (o := 3) g3 hk (by omega) (fun _ _ g4 => wk_ld_step (o := 4) g4 hk (by omega) (fun _ _ g5 => br_t (by decide) ?_)))))⟩⟩
  refine wk_write g5 hk (wk_wrE h5).1 (fun b hb => hp _ (wk_wr g5 hk (by decide) h5 ?_ hb.2.2.2.2.2.2.2))
  obtain ⟨c0, c1, c2, c3, c4, c5, c6, _⟩ := hb
  intro i hi
  match i, hi with
  | 0, _ => exact c0
  | 1, _ => exact c1
  | 2, _ => exact c2
  | 3, _ => exact c3
  | 4, _ => exact c4
  | 5, _ => exact c5
  | 6, _ => exact c6
theorem wk_land31 (v : Nat) : Nat.land v 31 = v % 32 := Nat.and_two_pow_sub_one_eq_mod v 5
theorem wk_stands {M S n F : Nat} {u : St2} {kt kf : Nat → Nat} {post : Int32 → St2 → Prop} (h : ra_R P M S u) (hk : n < 5) (h0 : F ≠ 0) (hE : em_st S n kt kf = F)
    (ht : ∀ M' S' u', ra_R P M' S' u' → kt S' = F → post 1 u') (hf : ∀ M' S' u', ra_R P M' S' u' → kf S' = F → post 0 u') : wpX_stands post u (nI n) := by
  have h' := h
  obtain ⟨f1, f2, f3, f4, a1, a2, a3, a4, a5, a6, a7, a8, a9, a10, a11, a12, a13, a14, a15, a16, a17⟩ := u
  obtain ⟨hP, hF, h1, h2, h3, h4, h5, h6, h7, h8, h9, hn, h10, h11, h12, h14, h15, h16, h17⟩ := h
  have l2 := by_lt S (2 + n)
  have E : em_st S n kt kf = em_c (Nat.ble 1 (em_g S (2 + n))) (em_b (em_as S n 1) (fun S1 => em_c (em_mj (Nat.land (em_g S1 (27 + n)) 31)) (em_c (Nat.ble 255 (em_g S1 (17 + n))) 0 (em_b (em_s (em_s S1 (17 + n) (em_g S1 (17 + n) + 1)) (22 + n) (n + 1)) (fun S2 => em_b (em_as S2 n 3) (fun S3 => em_c (em_mj (Nat.land (em_g S3 (27 + n)) 31)) (em_b (em_ld S3 n) kt) (kf S3))))) (kf S1))) (kf S) := rfl
  rw [E] at hE
  unfold wpX_stands
  dsimp only
  rw [nI_clamp (show n < 2 ^ 31 by omega), h1 n hk]
  refine ⟨pk_in n 5 hk, pk_eq (em_g S (2 + n)) 0 (fun z => ?_) (fun z => wk_membersFor h' hk (br_f (by rw [wk_bit n hk]; decide) ?_))⟩
  · rw [by_cf (by_lef.mpr (by omega))] at hE
    exact hf _ _ _ h' hE
  · rw [by_ct (by_le.mpr (by omega))] at hE
    rw [← hE] at h0
    obtain ⟨b1, c1, d1⟩ := by_b h0
    rw [d1] at hE
    refine wk_asks (so := 1) h' hk (by decide) b1 (fun M' u' hu q => ?_) (fun M' u' hu q => ?_)
    · rw [wk_land31, by_ct q] at hE c1
      obtain ⟨f1, f2, f3, f4, a1, a2, a3, a4, a5, a6, a7, a8, a9, a10, a11, a12, a13, a14, a15, a16, a17⟩ := u'
      have hu' := hu
      obtain ⟨hP, hF, h1, h2, h3, h4, h5, h6, h7, h8, h9, hn, h10, h11, h12, h14, h15, h16, h17⟩ := hu
      cases e : Nat.ble 255 (em_g (em_as S n 1) (17 + n)) with
      | true => rw [by_ct e] at c1; exact absurd rfl c1
      | false =>
        rw [by_cf e] at hE c1
        have e := by_lef.mp e
        obtain ⟨b2, c2, d2⟩ := by_b c1
        rw [d2] at hE
        obtain ⟨b3, c3, d3⟩ := by_b c2
        rw [d3] at hE
        dsimp only
        rw [h4 n hk]
        have r := ra_u5 (ra_u4 hu' hk (show em_g (em_as S n 1) (17 + n) + 1 < 256 by omega)) hk (show n + 1 < 256 by omega)
        have w : ra_w (n + 1) = nI n := rfl
        rw [w] at r
        refine br_f (by decide) ⟨pk_in n 5 hk, pk_in n 5 hk, nm_r (by rw [nI_1]) ⟨pk_in n 5 hk, nm_e (wk_asks (so := 3) r hk (by decide) b3 (fun M' u' hu q => ?_) (fun M' u' hu q => ?_))⟩⟩
        · rw [wk_land31, by_ct q] at hE c3
          obtain ⟨f1, f2, f3, f4, a1, a2, a3, a4, a5, a6, a7, a8, a9, a10, a11, a12, a13, a14, a15, a16, a17⟩ := u'
          obtain ⟨b4, c4, d4⟩ := by_b c3
          rw [d4] at hE
          refine br_f (by decide) (wk_lead hu hk b4 (fun u' hu => ?_))
          obtain ⟨f1, f2, f3, f4, a1, a2, a3, a4, a5, a6, a7, a8, a9, a10, a11, a12, a13, a14, a15, a16, a17⟩ := u'
          exact ht _ _ _ hu hE
        · rw [wk_land31, by_cf q] at hE
          obtain ⟨f1, f2, f3, f4, a1, a2, a3, a4, a5, a6, a7, a8, a9, a10, a11, a12, a13, a14, a15, a16, a17⟩ := u'
          exact br_t rfl (hf _ _ _ hu hE)
    · rw [wk_land31, by_cf q] at hE
      obtain ⟨f1, f2, f3, f4, a1, a2, a3, a4, a5, a6, a7, a8, a9, a10, a11, a12, a13, a14, a15, a16, a17⟩ := u'
      exact br_t rfl (hf _ _ _ hu hE)
theorem wk_ho_step {M S F : Nat} {f1 f2 f3 f4 : Int32} {a1 a2 a3 a4 a5 a6 a7 a8 a9 a10 a11 a12 a13 a14 a15 a16 a17 : Nat → Int32} {k n f : Nat} {late : Bool} {K : Nat → Nat} {post : St2 → Prop} (h : ra_R P M S (f1, f2, f3, f4, a1, a2, a3, a4, a5, a6, a7, a8, a9, a10, a11, a12, a13, a14, a15, a16, a17)) (hk : n < 5) (hk2 : k < 10) (hkn : k % 5 = n) (hl : late = true ↔ 5 ≤ k) (h0 : F ≠ 0) (hE : em_h1 S n late K = F)
    (hp : ∀ M' u', ra_R P M' F u' → post u') (hJ : ∀ (M' S' : Nat) {f1 f2 f3 f4 : Int32} {a1 a2 a3 a4 a5 a6 a7 a8 a9 a10 a11 a12 a13 a14 a15 a16 a17 : Nat → Int32}, ra_R P M' S' (f1, f2, f3, f4, a1, a2, a3, a4, a5, a6, a7, a8, a9, a10, a11, a12, a13, a14, a15, a16, a17) → K S' = F → wX_hold_2 post f (nI (k + 1)) f1 f2 f3 f4 a1 a2 a3 a4 a5 a6 a7 a8 a9 a10 a11 a12 a13 a14 a15 a16 a17) : wX_hold_2 post (f + 1) (nI k) f1 f2 f3 f4 a1 a2 a3 a4 a5 a6 a7 a8 a9 a10 a11 a12 a13 a14 a15 a16 a17 := by
  have h' := h
  obtain ⟨hP, hF, h1, h2, h3, h4, h5, h6, h7, h8, h9, hn, h10, h11, h12, h14, h15, h16, h17⟩ := h
  have l16 := hn n hk
  have lc := by_lt S (37 + n)
  have st : em_st S n (fun S => S) K = F → wpX_stands (fun r_10 u => match u with | (f1, f2, f3, f4, a1, a2, a3, a4, a5, a6, a7, a8, a9, a10, a11, a12, a13, a14, a15, a16, a17) => ((r_10 = 0 → (∀ x1_67 : Int32, x1_67 = nI k + 1 → wX_hold_2 post f x1_67 f1 f2 f3 f4 a1 a2 a3 a4 a5 a6 a7 a8 a9 a10 a11 a12 a13 a14 a15 a16 a17)) ∧ (¬ r_10 = 0 → post (f1, f2, f3, f4, a1, a2, a3, a4, a5, a6, a7, a8, a9, a10, a11, a12, a13, a14, a15, a16, a17)))) (f1, f2, f3, f4, a1, a2, a3, a4, a5, a6, a7, a8, a9, a10, a11, a12, a13, a14, a15, a16, a17) (nI n) := by
    intro e
    refine wk_stands h' hk h0 e (fun M' S' u' hu g => ?_) (fun M' S' u' hu g => ?_)
    · obtain ⟨f1, f2, f3, f4, a1, a2, a3, a4, a5, a6, a7, a8, a9, a10, a11, a12, a13, a14, a15, a16, a17⟩ := u'
      have g : S' = F := g
      subst g
      exact br_f (by decide) (hp _ _ hu)
    · obtain ⟨f1, f2, f3, f4, a1, a2, a3, a4, a5, a6, a7, a8, a9, a10, a11, a12, a13, a14, a15, a16, a17⟩ := u'
      exact br_t rfl (nm_r (nI_1 k) (hJ _ _ hu g))
  refine pk_le 10 k (fun z => absurd z (by omega)) (fun z => ⟨by decide, nm_r (e' := nI n) (by rw [wk_5, pk_rem (by omega) (by omega) (by omega), hkn]) ⟨pk_in n 5 hk, wk_lastOf h' hk ?_⟩⟩)
  rw [nI_clamp (show n < 2 ^ 31 by omega), h11 n hk]
  cases late with
  | true =>
    have k5 := hl.mp rfl
    have E : em_h1 S n true K = em_c (Nat.ble (em_g S (37 + n) + 1) (em_g S (32 + n))) (em_st S n (fun S => S) K) (K S) := rfl
    rw [E] at hE
    refine pk_le (em_g S (32 + n)) (em_g S (37 + n)) (fun q => ?_) (fun q => ?_)
    · rw [by_cf (by_lef.mpr (by omega))] at hE
      unfold wX_hold_31 wX_hold_43
      exact br_f (nI_nlt (b := 5) k5 (by omega)) (br_f (by decide) (nm_r (nI_1 k) (hJ _ _ h' hE)))
    · rw [by_ct (by_le.mpr (by omega))] at hE
      unfold wX_hold_31 wX_hold_43
      exact br_f (nI_nlt (b := 5) k5 (by omega)) (br_t rfl (st hE))
  | false =>
    have k5 : k < 5 := Nat.lt_of_not_le (fun q => Bool.noConfusion (hl.mpr q))
    have E : em_h1 S n false K = em_c (Nat.ble (em_g S (37 + n) + 1) (em_g S (32 + n))) (K S) (em_st S n (fun S => S) K) := rfl
    rw [E] at hE
    refine pk_le (em_g S (32 + n)) (em_g S (37 + n)) (fun q => ?_) (fun q => ?_)
    · rw [by_cf (by_lef.mpr (by omega))] at hE
      unfold wX_hold_31 wX_hold_43
      exact br_t (nI_lt (b := 5) k5 (by omega)) (br_t rfl (st hE))
    · rw [by_ct (by_le.mpr (by omega))] at hE
      unfold wX_hold_31 wX_hold_43
      exact br_t (nI_lt (b := 5) k5 (by omega)) (br_f (by decide) (nm_r (nI_1 k) (hJ _ _ h' hE)))
theorem wk_hold {M S : Nat} {u : St2} {post : St2 → Prop} (h : ra_R P M S u) (h0 : em_ho S ≠ 0) (hp : ∀ M' u', ra_R P M' (em_ho S) u' → post u') : wpX_hold post u := by
  obtain ⟨f1, f2, f3, f4, a1, a2, a3, a4, a5, a6, a7, a8, a9, a10, a11, a12, a13, a14, a15, a16, a17⟩ := u
  refine ⟨11, ?_⟩
  generalize hF : em_ho S = F at *
  refine wk_ho_step (k := 0) (n := 0) (late := false) h (by decide) (by decide) rfl (by decide) h0 hF hp (fun _ _ {_ _ _ _ _ _ _ _ _ _ _ _ _ _ _ _ _ _ _ _ _} g E => ?_)
  refine wk_ho_step (k := 1) (n := 1) (late := false) g (by decide) (by decide) rfl (by decide) h0 E hp (fun _ _ {_ _ _ _ _ _ _ _ _ _ _ _ _ _ _ _ _ _ _ _ _} g E => ?_)
  refine wk_ho_step (k := 2) (n := 2) (late := false) g (by decide) (by decide) rfl (by decide) h0 E hp (fun _ _ {_ _ _ _ _ _ _ _ _ _ _ _ _ _ _ _ _ _ _ _ _} g E => ?_)
  refine wk_ho_step (k := 3) (n := 3) (late := false) g (by decide) (by decide) rfl (by decide) h0 E hp (fun _ _ {_ _ _ _ _ _ _ _ _ _ _ _ _ _ _ _ _ _ _ _ _} g E => ?_)
  refine wk_ho_step (k := 4) (n := 4) (late := false) g (by decide) (by decide) rfl (by decide) h0 E hp (fun _ _ {_ _ _ _ _ _ _ _ _ _ _ _ _ _ _ _ _ _ _ _ _} g E => ?_)
  refine wk_ho_step (k := 5) (n := 0) (late := true) g (by decide) (by decide) rfl (by decide) h0 E hp (fun _ _ {_ _ _ _ _ _ _ _ _ _ _ _ _ _ _ _ _ _ _ _ _} g E => ?_)
  refine wk_ho_step (k := 6) (n := 1) (late := true) g (by decide) (by decide) rfl (by decide) h0 E hp (fun _ _ {_ _ _ _ _ _ _ _ _ _ _ _ _ _ _ _ _ _ _ _ _} g E => ?_)
  refine wk_ho_step (k := 7) (n := 2) (late := true) g (by decide) (by decide) rfl (by decide) h0 E hp (fun _ _ {_ _ _ _ _ _ _ _ _ _ _ _ _ _ _ _ _ _ _ _ _} g E => ?_)
  refine wk_ho_step (k := 8) (n := 3) (late := true) g (by decide) (by decide) rfl (by decide) h0 E hp (fun _ _ {_ _ _ _ _ _ _ _ _ _ _ _ _ _ _ _ _ _ _ _ _} g E => ?_)
  refine wk_ho_step (k := 9) (n := 4) (late := true) g (by decide) (by decide) rfl (by decide) h0 E hp (fun _ _ {_ _ _ _ _ _ _ _ _ _ _ _ _ _ _ _ _ _ _ _ _} g E => ?_)
  have E : _ = F := E
  subst E
  exact br_t (by decide) (hp _ _ g)
end
end
section
/-! ===== settling; the calls ===== -/
section
variable {P : ra_P}
theorem wk_set22 {M S : Nat} {f1 f2 f3 f4 : Int32} {a1 a2 a3 a4 a5 a6 a7 a8 a9 a10 a11 a12 a13 a14 a15 a16 a17 : Nat → Int32} {x : Nat} {post : St2 → Prop} {J : Int32 → Int32 → Int32 → Int32 → Int32 → (Nat → Int32) → (Nat → Int32) → (Nat → Int32) → (Nat → Int32) → (Nat → Int32) → (Nat → Int32) → (Nat → Int32) → (Nat → Int32) → (Nat → Int32) → (Nat → Int32) → (Nat → Int32) → (Nat → Int32) → (Nat → Int32) → (Nat → Int32) → (Nat → Int32) → (Nat → Int32) → (Nat → Int32) → Prop} (h : ra_R P M S (f1, f2, f3, f4, a1, a2, a3, a4, a5, a6, a7, a8, a9, a10, a11, a12, a13, a14, a15, a16, a17)) (h0 : em_x2 S ≠ 0) (hJ : ∀ (M' : Nat) {f1 f2 f3 f4 : Int32} {a1 a2 a3 a4 a5 a6 a7 a8 a9 a10 a11 a12 a13 a14 a15 a16 a17 : Nat → Int32}, ra_R P M' (em_x2 S) (f1, f2, f3, f4, a1, a2, a3, a4, a5, a6, a7, a8, a9, a10, a11, a12, a13, a14, a15, a16, a17) → J (nI (x + 1)) f1 f2 f3 f4 a1 a2 a3 a4 a5 a6 a7 a8 a9 a10 a11 a12 a13 a14 a15 a16 a17) : wX_settle_22 post J (nI x) f1 f2 f3 f4 a1 a2 a3 a4 a5 a6 a7 a8 a9 a10 a11 a12 a13 a14 a15 a16 a17 := by
  have E : em_x2 S = em_c (Nat.beq (em_le S) 5) S (em_b (em_sp S (em_le S)) (fun S1 => em_b (em_sp S1 (em_le S)) (fun S2 => em_gu S2))) := by
    show em_f _ _ = _
    rw [by_f]
  rw [E] at h0 hJ
  unfold wX_settle_22
  refine wk_leaderNow h (fun l => br_f (nI_pos (by omega)) ?_) (fun l => br_t (by decide) (nm_r (nI_1 x) ?_))
  · rw [by_cf (by_bef.mpr (by omega))] at h0 hJ
    obtain ⟨b1, c1, d1⟩ := by_b h0
    rw [d1] at hJ
    obtain ⟨b2, c2, d2⟩ := by_b c1
    rw [d2] at hJ
    refine wk_spread h l b1 (fun M' u' hu => ?_)
    obtain ⟨f1, f2, f3, f4, a1, a2, a3, a4, a5, a6, a7, a8, a9, a10, a11, a12, a13, a14, a15, a16, a17⟩ := u'
    dsimp only
    refine wk_spread hu l b2 (fun M' u' hu => ?_)
    obtain ⟨f1, f2, f3, f4, a1, a2, a3, a4, a5, a6, a7, a8, a9, a10, a11, a12, a13, a14, a15, a16, a17⟩ := u'
    dsimp only
    refine wk_giveUp hu c2 (fun u' hu => ?_)
    obtain ⟨f1, f2, f3, f4, a1, a2, a3, a4, a5, a6, a7, a8, a9, a10, a11, a12, a13, a14, a15, a16, a17⟩ := u'
    exact nm_r (nI_1 x) (hJ _ hu)
  · rw [by_ct (by_be.mpr l)] at hJ
    exact hJ _ h
theorem wk_set_step {M S : Nat} {f1 f2 f3 f4 : Int32} {a1 a2 a3 a4 a5 a6 a7 a8 a9 a10 a11 a12 a13 a14 a15 a16 a17 : Nat → Int32} {x f : Nat} {post : St2 → Prop} (h : ra_R P M S (f1, f2, f3, f4, a1, a2, a3, a4, a5, a6, a7, a8, a9, a10, a11, a12, a13, a14, a15, a16, a17)) (hx : x < 3) (h0 : em_x1 S ≠ 0) (hJ : ∀ (M' : Nat) {f1 f2 f3 f4 : Int32} {a1 a2 a3 a4 a5 a6 a7 a8 a9 a10 a11 a12 a13 a14 a15 a16 a17 : Nat → Int32}, ra_R P M' (em_x1 S) (f1, f2, f3, f4, a1, a2, a3, a4, a5, a6, a7, a8, a9, a10, a11, a12, a13, a14, a15, a16, a17) → wX_settle_6 post f (nI (x + 1)) f1 f2 f3 f4 a1 a2 a3 a4 a5 a6 a7 a8 a9 a10 a11 a12 a13 a14 a15 a16 a17) : wX_settle_6 post (f + 1) (nI x) f1 f2 f3 f4 a1 a2 a3 a4 a5 a6 a7 a8 a9 a10 a11 a12 a13 a14 a15 a16 a17 := by
  have E : em_x1 S = em_c (Nat.beq (em_le S) 5) (em_b (em_ho S) (fun S1 => em_x2 S1)) (em_x2 S) := rfl
  rw [E] at h0 hJ
  refine pk_le 3 x (fun z => absurd z (by omega)) (fun z => wk_leaderNow h (fun l => br_t (nI_pos' (by omega)) ?_) (fun l => br_f (by decide) ?_))
  · rw [by_cf (by_bef.mpr (by omega))] at h0 hJ
    exact wk_set22 h h0 hJ
  · rw [by_ct (by_be.mpr l)] at h0 hJ
    obtain ⟨b1, c1, d1⟩ := by_b h0
    rw [d1] at hJ
    refine wk_hold h b1 (fun M' u' hu => ?_)
    obtain ⟨f1, f2, f3, f4, a1, a2, a3, a4, a5, a6, a7, a8, a9, a10, a11, a12, a13, a14, a15, a16, a17⟩ := u'
    exact wk_set22 hu c1 hJ
theorem wk_settle {M S : Nat} {u : St2} {post : St2 → Prop} (h : ra_R P M S u) (h0 : em_sx S ≠ 0) (hp : ∀ M' u', ra_R P M' (em_sx S) u' → post u') : wpX_settle post u := by
  have E : em_sx S = em_b (em_gu S) (fun S => em_b (em_x1 S) (fun S => em_b (em_x1 S) (fun S => em_x1 S))) := rfl
  rw [E] at h0 hp
  obtain ⟨f1, f2, f3, f4, a1, a2, a3, a4, a5, a6, a7, a8, a9, a10, a11, a12, a13, a14, a15, a16, a17⟩ := u
  obtain ⟨b1, c1, d1⟩ := by_b h0
  rw [d1] at hp
  obtain ⟨b2, c2, d2⟩ := by_b c1
  rw [d2] at hp
  obtain ⟨b3, c3, d3⟩ := by_b c2
  rw [d3] at hp
  unfold wpX_settle
  dsimp only
  refine wk_giveUp h b1 (fun u' hu => ?_)
  obtain ⟨f1, f2, f3, f4, a1, a2, a3, a4, a5, a6, a7, a8, a9, a10, a11, a12, a13, a14, a15, a16, a17⟩ := u'
  exact ⟨4, wk_set_step (x := 0) hu (by omega) b2 (fun _ {_ _ _ _ _ _ _ _ _ _ _ _ _ _ _ _ _ _ _ _ _} g1 => wk_set_step (x := 1) g1 (by omega) b3 (fun _ {_ _ _ _ _ _ _ _ _ _ _ _ _ _ _ _ _ _ _ _ _} g2 => wk_set_step (x := 2) g2 (by omega) c3 (fun _ {_ _ _ _ _ _ _ _ _ _ _ _ _ _ _ _ _ _ _ _ _} g3 => br_t (by decide) (hp _ _ g3))))⟩
theorem wk_isNode {n : Nat} {post : Int32 → Prop} (hk : n < 5) (hp : post 1) : wpX_isNode post () (nI n) :=
  br_f (nI_pos (by omega)) (br_f (nI_ge (b := 5) hk (by decide)) hp)
theorem wk_isKey {n : Nat} {post : Int32 → Prop} (hk : n < 6) (hp : post 1) : wpX_isKey post () (nI n) :=
  br_f (nI_pos (by omega)) (br_f (nI_ge (b := 6) hk (by decide)) hp)
theorem wk_isSession {n : Nat} {post : Int32 → Prop} (hk : n < 4) (hp : post 1) : wpX_isSession post () (nI n) :=
  br_f (nI_pos (by omega)) (br_f (nI_ge (b := 4) hk (by decide)) hp)
theorem wk_move {M S n g : Nat} {u : St2} {post : Int32 → St2 → Prop} (h : ra_R P M S u) (hk : n < 5) (hg : g ≤ 2) (h0 : em_mv S n g ≠ 0) (hp : ∀ M' u', ra_R P M' (em_mv S n g) u' → post (nI (em_g S (7 + n))) u') : wpX_move post u (nI n) (nI g) := by
  have E : em_mv S n g = em_b (em_s S (7 + n) g) (fun S => em_sx S) := rfl
  rw [E] at h0 hp
  obtain ⟨b1, c1, d1⟩ := by_b h0
  rw [d1] at hp
  have h' := h
  obtain ⟨f1, f2, f3, f4, a1, a2, a3, a4, a5, a6, a7, a8, a9, a10, a11, a12, a13, a14, a15, a16, a17⟩ := u
  obtain ⟨hP, hF, h1, h2, h3, h4, h5, h6, h7, h8, h9, hn, h10, h11, h12, h14, h15, h16, h17⟩ := h
  unfold wpX_move
  dsimp only
  rw [nI_clamp (show n < 2 ^ 31 by omega), h2 n hk]
  refine wk_isNode hk (br_f (by decide) (br_f (nI_pos (by omega)) (br_t (nI_le (b := 2) hg (by decide)) ⟨pk_in n 5 hk, nm_e ⟨pk_in n 5 hk, nm_e (wk_settle (ra_u2 h' hk (by omega)) c1 (fun M' u' hu => ?_))⟩⟩)))
  obtain ⟨f1, f2, f3, f4, a1, a2, a3, a4, a5, a6, a7, a8, a9, a10, a11, a12, a13, a14, a15, a16, a17⟩ := u'
  exact hp _ _ hu
theorem wk_stop {M S n : Nat} {u : St2} {post : Int32 → St2 → Prop} (h : ra_R P M S u) (hk : n < 5) (hup : em_g S (2 + n) = 1) (h0 : em_sp0 S n ≠ 0) (hp : ∀ M' u', ra_R P M' (em_sp0 S n) u' → post 1 u') : wpX_stop post u (nI n) := by
  have E : em_sp0 S n = em_b (em_s (em_s S (2 + n) 0) (12 + n) 0) (fun S => em_sx S) := rfl
  rw [E] at h0 hp
  obtain ⟨b1, c1, d1⟩ := by_b h0
  rw [d1] at hp
  have h' := h
  obtain ⟨f1, f2, f3, f4, a1, a2, a3, a4, a5, a6, a7, a8, a9, a10, a11, a12, a13, a14, a15, a16, a17⟩ := u
  obtain ⟨hP, hF, h1, h2, h3, h4, h5, h6, h7, h8, h9, hn, h10, h11, h12, h14, h15, h16, h17⟩ := h
  unfold wpX_stop
  dsimp only
  rw [nI_clamp (show n < 2 ^ 31 by omega), h1 n hk, hup]
  refine wk_isNode hk (br_f (by decide) ⟨pk_in n 5 hk, br_f (by decide) ?_⟩)
  unfold wX_stop_23
  rw [nI_clamp (show n < 2 ^ 31 by omega)]
  refine ⟨pk_in n 5 hk, nm_e ⟨pk_in n 5 hk, nm_e (wk_settle (ra_u3 (ra_u1 h' hk (v := 0) (by decide)) hk (v := 0) (by decide)) c1 (fun M' u' hu => ?_))⟩⟩
  obtain ⟨f1, f2, f3, f4, a1, a2, a3, a4, a5, a6, a7, a8, a9, a10, a11, a12, a13, a14, a15, a16, a17⟩ := u'
  exact hp _ _ hu
theorem wk_start {M S n : Nat} {u : St2} {post : Int32 → St2 → Prop} (h : ra_R P M S u) (hk : n < 5) (hup : em_g S (2 + n) = 0) (h0 : em_sta S n ≠ 0) (hp : ∀ M' u', ra_R P M' (em_sta S n) u' → post 1 u') : wpX_start post u (nI n) := by
  have E : em_sta S n = em_b (em_s S (2 + n) 1) (fun S => em_sx S) := rfl
  rw [E] at h0 hp
  obtain ⟨b1, c1, d1⟩ := by_b h0
  rw [d1] at hp
  have h' := h
  obtain ⟨f1, f2, f3, f4, a1, a2, a3, a4, a5, a6, a7, a8, a9, a10, a11, a12, a13, a14, a15, a16, a17⟩ := u
  obtain ⟨hP, hF, h1, h2, h3, h4, h5, h6, h7, h8, h9, hn, h10, h11, h12, h14, h15, h16, h17⟩ := h
  unfold wpX_start
  dsimp only
  rw [nI_clamp (show n < 2 ^ 31 by omega), h1 n hk, hup]
  refine wk_isNode hk (br_f (by decide) ⟨pk_in n 5 hk, br_t rfl ?_⟩)
  unfold wX_start_23
  rw [nI_clamp (show n < 2 ^ 31 by omega)]
  refine ⟨pk_in n 5 hk, nm_e (wk_settle (ra_u1 h' hk (v := 1) (by decide)) c1 (fun M' u' hu => ?_))⟩
  obtain ⟨f1, f2, f3, f4, a1, a2, a3, a4, a5, a6, a7, a8, a9, a10, a11, a12, a13, a14, a15, a16, a17⟩ := u'
  exact hp _ _ hu
theorem wk_leader {M S : Nat} {u : St2} {post : Int32 → Prop} (h : ra_R P M S u) (ht : em_le S < 5 → post (nI (em_le S))) (hf : em_le S = 5 → post (-2)) : wpX_leader post u := by
  obtain ⟨f1, f2, f3, f4, a1, a2, a3, a4, a5, a6, a7, a8, a9, a10, a11, a12, a13, a14, a15, a16, a17⟩ := u
  unfold wpX_leader
  dsimp only
  exact wk_leaderNow h (fun l => br_t (nI_pos' (by omega)) (ht l)) (fun l => br_f (by decide) (hf l))
theorem wk_15k (n c : Nat) : 15 * nI n + nI c = nI (15 * n + c) := by
  rw [wk_15, pk_mul, nI_add]
theorem wk_get {M S : Nat} {u : St2} {post : Int32 → Prop} (h : ra_R P M S u) (ht : em_le S < 5 → post (ra_val P (em_g S (42 + em_le S)))) (hf : em_le S = 5 → post 0) : wpX_get post u (nI P.1) := by
  have h' := h
  obtain ⟨f1, f2, f3, f4, a1, a2, a3, a4, a5, a6, a7, a8, a9, a10, a11, a12, a13, a14, a15, a16, a17⟩ := u
  obtain ⟨hP, hF, h1, h2, h3, h4, h5, h6, h7, h8, h9, hn, h10, h11, h12, h14, h15, h16, h17⟩ := h
  unfold wpX_get
  dsimp only
  refine wk_leaderNow h' (fun l => wk_isKey hP.1 (br_f (by decide) (br_f (nI_pos (by omega)) ?_))) (fun l => wk_isKey hP.1 (br_f (by decide) (br_t (by decide) (hf l))))
  rw [wk_15k, nI_clamp (by omega), h12 _ _ l (by omega), wk_v1]
  exact ⟨vp_in_nI (by omega) (by decide), ht l⟩
theorem wk_canGet {M S : Nat} {u : St2} {post : Int32 → Prop} (h : ra_R P M S u) (hl : em_le S = 5) (hf : post (-2)) : wpX_canGet post u (nI P.1) := by
  have h' := h
  obtain ⟨f1, f2, f3, f4, a1, a2, a3, a4, a5, a6, a7, a8, a9, a10, a11, a12, a13, a14, a15, a16, a17⟩ := u
  obtain ⟨hP, hF, h1, h2, h3, h4, h5, h6, h7, h8, h9, hn, h10, h11, h12, h14, h15, h16, h17⟩ := h
  unfold wpX_canGet
  dsimp only
  exact wk_isKey hP.1 (br_f (by decide) (wk_leaderNow h' (fun l => absurd hl (by omega)) (fun l => br_f (by decide) hf)))
theorem wk_member {M S n : Nat} {p1 : Int32} {u : St2} {post : Int32 → St2 → Prop} (h : ra_R P M S u) (hk : n < 5) (hl : em_le S = 5) (hf : post (-2) u) : wpX_member post u (nI n) p1 := by
  have h' := h
  obtain ⟨f1, f2, f3, f4, a1, a2, a3, a4, a5, a6, a7, a8, a9, a10, a11, a12, a13, a14, a15, a16, a17⟩ := u
  unfold wpX_member
  dsimp only
  exact wk_isNode hk (br_f (by decide) (wk_leaderNow h' (fun l => absurd hl (by omega)) (fun l => br_f (by decide) hf)))
theorem wk_local {M S n : Nat} {u : St2} {post : Int32 → Prop} (h : ra_R P M S u) (hk : n < 5) (hp : post (ra_val P (em_g S (42 + n)))) : wpX_local post u (nI n) (nI P.1) := by
  obtain ⟨f1, f2, f3, f4, a1, a2, a3, a4, a5, a6, a7, a8, a9, a10, a11, a12, a13, a14, a15, a16, a17⟩ := u
  obtain ⟨hP, hF, h1, h2, h3, h4, h5, h6, h7, h8, h9, hn, h10, h11, h12, h14, h15, h16, h17⟩ := h
  unfold wpX_local
  dsimp only
  refine wk_isNode hk (br_f (by decide) (wk_isKey hP.1 (br_f (by decide) ?_)))
  rw [wk_15k, nI_clamp (by omega), h12 _ _ hk (by omega), wk_v1]
  exact ⟨vp_in_nI (by omega) (by decide), hp⟩
theorem wk_answer {M S n : Nat} {u : St2} {post : Int32 → Prop} (h : ra_R P M S u) (hk : n < 5) (hp : post (ra_ans P (em_g S (42 + n)))) : wpX_answer post u (nI n) (nI P.2.1) := by
  obtain ⟨f1, f2, f3, f4, a1, a2, a3, a4, a5, a6, a7, a8, a9, a10, a11, a12, a13, a14, a15, a16, a17⟩ := u
  obtain ⟨hP, hF, h1, h2, h3, h4, h5, h6, h7, h8, h9, hn, h10, h11, h12, h14, h15, h16, h17⟩ := h
  unfold wpX_answer
  dsimp only
  refine wk_isNode hk (br_f (by decide) (wk_isSession hP.2 (br_f (by decide) ?_)))
  rw [show (10 : Int32) = nI 10 from rfl, wk_15k, nI_add, nI_clamp (by omega), show 15 * n + 10 + P.2.1 = 15 * n + (10 + P.2.1) by omega, h12 _ _ hk (by omega), wk_v3 hP]
  exact ⟨vp_in_nI (by omega) (by decide), hp⟩
theorem wk_lastNumber {M S n : Nat} {u : St2} {post : Int32 → Prop} (h : ra_R P M S u) (hk : n < 5) (hp : post (nI (em_g S (42 + n)))) : wpX_lastNumber post u (nI n) (nI P.2.1) := by
  obtain ⟨f1, f2, f3, f4, a1, a2, a3, a4, a5, a6, a7, a8, a9, a10, a11, a12, a13, a14, a15, a16, a17⟩ := u
  obtain ⟨hP, hF, h1, h2, h3, h4, h5, h6, h7, h8, h9, hn, h10, h11, h12, h14, h15, h16, h17⟩ := h
  unfold wpX_lastNumber
  dsimp only
  refine wk_isNode hk (br_f (by decide) (wk_isSession hP.2 (br_f (by decide) ?_)))
  rw [show (6 : Int32) = nI 6 from rfl, wk_15k, nI_add, nI_clamp (by omega), show 15 * n + 6 + P.2.1 = 15 * n + (6 + P.2.1) by omega, h12 _ _ hk (by omega), wk_v2 hP]
  exact ⟨vp_in_nI (by omega) (by decide), hp⟩
/-! the same states -/
theorem wk_same1 {M S : Nat} {f1 f2 f3 f4 : Int32} {a1 a2 a3 a4 a5 a6 a7 a8 a9 a10 a11 a12 a13 a14 a15 a16 a17 : Nat → Int32} {a b : Nat} {post : Int32 → Prop} (h : ra_R P M S (f1, f2, f3, f4, a1, a2, a3, a4, a5, a6, a7, a8, a9, a10, a11, a12, a13, a14, a15, a16, a17)) (ha : a < 5) (hb : b < 5) (he : em_g S (42 + a) = em_g S (42 + b)) (hp : post 1) : ∀ f k, k + f = 14 → wX_areSame_2 post (nI a) (nI b) f1 f2 f3 f4 a1 a2 a3 a4 a5 a6 a7 a8 a9 a10 a11 a12 a13 a14 a15 a16 a17 (f + 1) (nI k) := by
  obtain ⟨hP, hF, h1, h2, h3, h4, h5, h6, h7, h8, h9, hn, h10, h11, h12, h14, h15, h16, h17⟩ := h
  intro f
  induction f with
  | zero =>
    intro k e
    exact pk_le 14 k (fun _ => hp) (fun z => absurd z (by omega))
  | succ f ih =>
    intro k e
    refine pk_le 14 k (fun z => absurd z (by omega)) (fun z => ?_)
    rw [wk_15k, wk_15k, nI_clamp (by omega), nI_clamp (by omega), h12 a k ha (by omega), h12 b k hb (by omega), he]
    exact ⟨vp_in_nI (by omega) (by decide), vp_in_nI (by omega) (by decide), br_t rfl (nm_r (nI_1 k) (ih (k + 1) (by omega)))⟩
theorem wk_same0 {M S : Nat} {f1 f2 f3 f4 : Int32} {a1 a2 a3 a4 a5 a6 a7 a8 a9 a10 a11 a12 a13 a14 a15 a16 a17 : Nat → Int32} {a b : Nat} {post : Int32 → Prop} (h : ra_R P M S (f1, f2, f3, f4, a1, a2, a3, a4, a5, a6, a7, a8, a9, a10, a11, a12, a13, a14, a15, a16, a17)) (ha : a < 5) (hb : b < 5) (he : em_g S (42 + a) ≠ em_g S (42 + b)) (hp : post 0) : ∀ f k, k + f = 7 + P.2.1 → 1 ≤ f → wX_areSame_2 post (nI a) (nI b) f1 f2 f3 f4 a1 a2 a3 a4 a5 a6 a7 a8 a9 a10 a11 a12 a13 a14 a15 a16 a17 f (nI k) := by
  obtain ⟨hP, hF, h1, h2, h3, h4, h5, h6, h7, h8, h9, hn, h10, h11, h12, h14, h15, h16, h17⟩ := h
  have la := by_lt S (42 + a)
  have lb := by_lt S (42 + b)
  intro f
  induction f with
  | zero =>
    intro k e z
    exact absurd z (by omega)
  | succ f ih =>
    intro k e _
    refine pk_le 14 k (fun z => absurd z (by omega)) (fun z => ?_)
    rw [wk_15k, wk_15k, nI_clamp (by omega), nI_clamp (by omega), h12 a k ha (by omega), h12 b k hb (by omega)]
    refine ⟨vp_in_nI (by omega) (by decide), vp_in_nI (by omega) (by decide), ?_⟩
    by_cases ek : k = 6 + P.2.1
    · refine br_f ?_ hp
      rw [ek, wk_v2 hP, wk_v2 hP, nI_eq (by omega) (by omega)]
      exact he
    · exact br_c (fun _ => nm_r (nI_1 k) (ih (k + 1) (by omega) (by omega))) (fun _ => hp)
theorem wk_areSame {M S a b : Nat} {u : St2} {post : Int32 → Prop} (h : ra_R P M S u) (ha : a < 5) (hb : b < 5) (ht : em_g S (42 + a) = em_g S (42 + b) → post 1) (hf : em_g S (42 + a) ≠ em_g S (42 + b) → post 0) : wpX_areSame post u (nI a) (nI b) := by
  obtain ⟨f1, f2, f3, f4, a1, a2, a3, a4, a5, a6, a7, a8, a9, a10, a11, a12, a13, a14, a15, a16, a17⟩ := u
  by_cases e : em_g S (42 + a) = em_g S (42 + b)
  · exact ⟨15, wk_same1 h ha hb e (ht e) 14 0 rfl⟩
  · exact ⟨_, wk_same0 h ha hb e (hf e) (7 + P.2.1) 0 (by omega) (by omega)⟩
theorem wk_same {M S a b : Nat} {u : St2} {post : Int32 → Prop} (h : ra_R P M S u) (ha : a < 5) (hb : b < 5) (ht : em_g S (42 + a) = em_g S (42 + b) → post 1) (hf : em_g S (42 + a) ≠ em_g S (42 + b) → post 0) : wpX_same post u (nI a) (nI b) := by
  have h' := h
  obtain ⟨f1, f2, f3, f4, a1, a2, a3, a4, a5, a6, a7, a8, a9, a10, a11, a12, a13, a14, a15, a16, a17⟩ := u
  unfold wpX_same
  dsimp only
  exact wk_isNode ha (br_f (by decide) (wk_isNode hb (br_f (by decide) (wk_areSame h' ha hb (fun e => br_f (by decide) (ht e)) (fun e => br_t rfl (hf e))))))
end
end
section
/-! ===== commands; the constructor ===== -/
section
variable {P : ra_P}
theorem wk_standing {M S k kd : Nat} {u : St2} {post : Int32 → Prop} (h : ra_R P M S u) (hkd : kd ≤ 2) (hk : k < 256) (hb : k = 0 → post (-1)) (hq : k ≠ 0 → em_le S = 5 → post (-2))
    (hl : k ≠ 0 → em_le S < 5 → (k < em_g S (42 + em_le S) → post (-3)) ∧ (k = em_g S (42 + em_le S) → post 1) ∧ (em_g S (42 + em_le S) < k → post 0)) : wpX_standingOf post u (nI (6 * (4 * kd + P.2.1) + P.1)) (nI k) := by
  have h' := h
  obtain ⟨f1, f2, f3, f4, a1, a2, a3, a4, a5, a6, a7, a8, a9, a10, a11, a12, a13, a14, a15, a16, a17⟩ := u
  obtain ⟨hP, hF, h1, h2, h3, h4, h5, h6, h7, h8, h9, hn, h10, h11, h12, h14, h15, h16, h17⟩ := h
  have p72 : 6 * (4 * kd + P.2.1) + P.1 < 72 := by omega
  unfold wpX_standingOf
  dsimp only
  rw [show (6 : Int32) = nI 6 from rfl, show (4 : Int32) = nI 4 from rfl, pk_div (by omega) (by omega) (by omega), pk_rem (by omega) (by omega) (by omega), show (6 * (4 * kd + P.2.1) + P.1) / 6 % 4 = P.2.1 by omega]
  refine br_f (nI_pos (by omega)) (br_f (nI_ge (b := 72) p72 (by decide)) (pk_le 1 k (fun z => wk_leaderNow h' (fun l => br_t (nI_pos' (by omega)) ?_) (fun l => br_f (by decide) (hq (by omega) l))) (fun z => hb (by omega))))
  have lv := by_lt S (42 + em_le S)
  obtain ⟨c1, c2, c3⟩ := hl (by omega) l
  rw [wk_15k, nI_add, nI_clamp (show 15 * em_le S + 6 + P.2.1 < 2 ^ 31 by omega), show 15 * em_le S + 6 + P.2.1 = 15 * em_le S + (6 + P.2.1) by omega, h12 _ _ l (by omega), wk_v2 hP]
  refine ⟨by decide, by decide, vp_in_nI (by omega) (by decide), nm_e (pk_le (em_g S (42 + em_le S)) k (fun q => pk_eq k (em_g S (42 + em_le S)) (fun q2 => c2 q2) (fun q2 => c3 (by omega))) (fun q => c1 q))⟩
theorem wk_kd : ∀ c, c < 5 → 1 ≤ c → ∃ kd, kd ≤ 2 ∧ ra_kind c = nI kd := by
  intro c h1 h2
  match c, h1, h2 with
  | 1, _, _ => exact ⟨0, by decide, rfl⟩
  | 2, _, _ => exact ⟨1, by decide, rfl⟩
  | 3, _, _ => exact ⟨2, by decide, rfl⟩
  | 4, _, _ => exact ⟨2, by decide, rfl⟩
theorem wk_writeCommand {M S n c kd : Nat} {u : St2} {post : St2 → Prop} (h : ra_R P M S u) (hk : n < 5) (hc : 1 ≤ c ∧ c ≤ 4) (hkd : kd ≤ 2) (hkk : ra_kind c = nI kd) (h0 : em_wr S n c ≠ 0) (hp : ∀ u', ra_R P M (em_wr S n c) u' → post u') :
    wpX_writeCommand post u (nI n) (nI (6 * (4 * kd + P.2.1) + P.1)) (nI c) (ra_ea P c) (ra_eb c) := by
  have h' := h
  obtain ⟨f1, f2, f3, f4, a1, a2, a3, a4, a5, a6, a7, a8, a9, a10, a11, a12, a13, a14, a15, a16, a17⟩ := u
  obtain ⟨hP, hF, h1, h2, h3, h4, h5, h6, h7, h8, h9, hn, h10, h11, h12, h14, h15, h16, h17⟩ := h
  have l16 := hn n hk
  have he := (wk_wrE h0).1
  unfold wpX_writeCommand
  dsimp only
  rw [show (24 : Int32) = nI 24 from rfl, show (6 : Int32) = nI 6 from rfl, show (4 : Int32) = nI 4 from rfl, show (5 : Int32) = nI 5 from rfl, pk_rem (d := 6) (by omega) (by omega) (by omega), pk_div (by omega) (by omega) (by omega), pk_div (d := 6) (by omega) (by omega) (by omega), pk_rem (by omega) (by omega) (by omega), show (6 * (4 * kd + P.2.1) + P.1) / 6 % 4 = P.2.1 by omega, show (6 * (4 * kd + P.2.1) + P.1) / 24 = kd by omega, show (6 * (4 * kd + P.2.1) + P.1) % 6 = P.1 by omega]
  refine ⟨by decide, by decide, by decide, by decide, wk_write h' hk he (fun b hb => ?_)⟩
  obtain ⟨c0, c1, c2, c3, c4, c5, c6, g2⟩ := hb
  dsimp only
  refine wk_last2 hk (h7 n hk) pk_us (wk_cell2 hk (h7 n hk) ?_)
  rw [nI_add, nI_add, nI_add, nI_clamp (show 7 * (16 * n + em_g S (32 + n)) + 4 < 2 ^ 31 by omega), nI_clamp (show 7 * (16 * n + em_g S (32 + n)) + 5 < 2 ^ 31 by omega), nI_clamp (show 7 * (16 * n + em_g S (32 + n)) + 6 < 2 ^ 31 by omega)]
  refine ⟨vp_in_nI (by omega) (by decide), nm_e ⟨vp_in_nI (by omega) (by decide), nm_e ⟨vp_in_nI (by omega) (by decide), nm_e (hp _ (wk_wr h' hk (by omega) h0 ?_ ?_))⟩⟩⟩
  · intro i hi
    match i, hi with
    | 0, _ => rw [pk_un (by omega), pk_un (by omega), pk_un (by omega)]; exact c0
    | 1, _ => rw [pk_un (by omega), pk_un (by omega), pk_un (by omega), c1]; exact hkk.symm
    | 2, _ => rw [pk_un (by omega), pk_un (by omega), pk_un (by omega), c2]; unfold ra_e; rw [if_neg (by decide), if_neg (by decide), if_pos rfl, if_neg (by omega)]
    | 3, _ => rw [pk_un (by omega), pk_un (by omega), pk_un (by omega), c3]; unfold ra_e; rw [if_neg (by decide), if_neg (by decide), if_neg (by decide), if_pos rfl, if_neg (by omega)]
    | 4, _ => rw [pk_un (by omega), pk_un (by omega), pk_us]; rfl
    | 5, _ => rw [pk_un (by omega), pk_us]; rfl
    | 6, _ => rw [pk_us]; rfl
  · intro i hi
    rw [pk_un (by omega), pk_un (by omega), pk_un (by omega)]
    exact g2 i hi
theorem wk_submit {M S c kd : Nat} {u : St2} {post : Int32 → St2 → Prop} (h : ra_R P M S u) (hc : 1 ≤ c ∧ c ≤ 4) (hkd : kd ≤ 2) (hkk : ra_kind c = nI kd) (h0 : em_su S c ≠ 0) (hp : ∀ M' u', ra_R P M' (em_su S c) u' → post 0 u') :
    wpX_submit post u (nI (6 * (4 * kd + P.2.1) + P.1)) (nI c) (ra_ea P c) (ra_eb c) := by
  have E : em_su S c = em_c (em_a (Nat.ble (em_le S + 1) 5) (Nat.beq (em_g S (42 + em_le S) + 1) c)) (em_b (em_wr S (em_le S) c) (fun S1 => em_b (em_sp S1 (em_le S)) (fun S2 => em_sx S2))) 0 := by
    show em_f _ _ = _
    rw [by_f]
    rfl
  rw [E] at h0 hp
  obtain ⟨f1, f2, f3, f4, a1, a2, a3, a4, a5, a6, a7, a8, a9, a10, a11, a12, a13, a14, a15, a16, a17⟩ := u
  cases e : em_a (Nat.ble (em_le S + 1) 5) (Nat.beq (em_g S (42 + em_le S) + 1) c) with
  | false => rw [by_cf e] at h0; exact absurd rfl h0
  | true =>
    rw [by_ct e] at h0 hp
    have l : em_le S < 5 := by_le.mp (by_a.mp e).1
    have v : em_g S (42 + em_le S) + 1 = c := by_be.mp (by_a.mp e).2
    obtain ⟨b1, c1, d1⟩ := by_b h0
    rw [d1] at hp
    obtain ⟨b2, c2, d2⟩ := by_b c1
    rw [d2] at hp
    unfold wpX_submit
    dsimp only
    refine wk_standing h hkd (by omega) (fun z => absurd z (by omega)) (fun _ z => absurd z (by omega)) (fun _ _ => ⟨fun z => absurd z (by omega), fun z => absurd z (by omega), fun _ => br_t rfl (wk_leaderNow h (fun _ => ?_) (fun z => absurd z (by omega)))⟩)
    refine wk_writeCommand h l hc hkd hkk b1 (fun u' hu => ?_)
    obtain ⟨f1, f2, f3, f4, a1, a2, a3, a4, a5, a6, a7, a8, a9, a10, a11, a12, a13, a14, a15, a16, a17⟩ := u'
    dsimp only
    refine wk_spread hu l b2 (fun M' u' hu => ?_)
    obtain ⟨f1, f2, f3, f4, a1, a2, a3, a4, a5, a6, a7, a8, a9, a10, a11, a12, a13, a14, a15, a16, a17⟩ := u'
    dsimp only
    refine wk_settle hu c2 (fun M' u' hu => ?_)
    obtain ⟨f1, f2, f3, f4, a1, a2, a3, a4, a5, a6, a7, a8, a9, a10, a11, a12, a13, a14, a15, a16, a17⟩ := u'
    exact hp _ _ hu
theorem wk_submit_no {M S k kd : Nat} {p2 p3 : Int32} {u : St2} {post : Int32 → St2 → Prop} (h : ra_R P M S u) (hkd : kd ≤ 2) (hk : k < 256) (hb : k = 0 → post (-1) u) (hq : k ≠ 0 → em_le S = 5 → post (-2) u)
    (hl : k ≠ 0 → em_le S < 5 → k ≤ em_g S (42 + em_le S) ∧ (k < em_g S (42 + em_le S) → post (-3) u) ∧ (k = em_g S (42 + em_le S) → post 1 u)) :
    wpX_submit post u (nI (6 * (4 * kd + P.2.1) + P.1)) (nI k) p2 p3 := by
  obtain ⟨f1, f2, f3, f4, a1, a2, a3, a4, a5, a6, a7, a8, a9, a10, a11, a12, a13, a14, a15, a16, a17⟩ := u
  unfold wpX_submit
  dsimp only
  exact wk_standing h hkd hk (fun z => br_f (by decide) (hb z)) (fun z l => br_f (by decide) (hq z l)) (fun z l => ⟨fun q => br_f (by decide) ((hl z l).2.1 q), fun q => br_f (by decide) ((hl z l).2.2 q), fun q => absurd (hl z l).1 (by omega)⟩)
/-! the constructor -/
theorem wk_s0b : ∀ k, k < 900 → em_g em_s0 k = if 2 ≤ k ∧ k < 7 then 1 else 0 := by decide +kernel
theorem wk_s00 {k : Nat} (h : k < 900) (h2 : k < 2 ∨ 7 ≤ k) : em_g em_s0 k = 0 := by
  rw [wk_s0b k h, if_neg (by omega)]
theorem wk_0b : ∀ k, k < 10 → em_g 0 k = 0 := by decide +kernel
theorem wk_v0 {c : Nat} (hP : P.1 < 6 ∧ P.2.1 < 4) : ra_v P 0 c = if c = 14 then 31 else 0 := by
  unfold ra_v
  by_cases c1 : c = P.1
  · rw [if_pos c1, if_neg (by omega)]; rfl
  · rw [if_neg c1]
    by_cases c2 : c = 6 + P.2.1
    · rw [if_pos c2, if_neg (by omega)]; rfl
    · rw [if_neg c2]
      by_cases c3 : c = 10 + P.2.1
      · rw [if_pos c3, if_neg (by omega)]; rfl
      · rw [if_neg c3]
theorem wk_R0 {b1 b5 b12 b13 : Nat → Int32} (hP : P.1 < 6 ∧ P.2.1 < 4) (h1 : ∀ n, n < 5 → b1 n = 1) (h5 : ∀ n, n < 5 → b5 n = -1) (h12 : ∀ n c, n < 5 → c < 15 → b12 (15 * n + c) = if c = 14 then 31 else 0) :
    ra_R P 0 em_s0 ((0 : Int32), (0 : Int32), (-1 : Int32), (0 : Int32), b1, (fun _ => 0), (fun _ => 0), (fun _ => 0), b5, (fun _ => 0), (fun _ => 0), (fun _ => 0), (fun _ => 0), (fun _ => 0), (fun _ => 0), b12, b13, (fun _ => 0), (fun _ => 0), (fun _ => 0), (fun _ => 0)) := by
  refine ra_I hP ⟨?_, ?_, ?_, ?_, rfl, rfl⟩ ?_ (fun n z => ?_) (fun n z => ?_) (fun n z => ?_) ?_ (fun n z => ?_) (fun n z => rfl) (fun n z => rfl) (fun n z => ?_) (fun n z => ?_) (fun n i c z1 z2 z3 => ?_) (fun n z => ?_) ?_ (fun n z => ?_) (fun n z => ?_) ?_ ?_
  · rw [wk_s00 (by omega) (by omega)]; rfl
  · rw [wk_s00 (by omega) (by omega)]; omega
  · rw [wk_s00 (by omega) (by omega)]; rfl
  · rw [wk_s00 (by omega) (by omega)]; omega
  · intro n z
    rw [wk_s0b _ (by omega), if_pos (by omega), h1 n z]; rfl
  · rw [wk_s00 (by omega) (by omega)]; rfl
  · rw [wk_s00 (by omega) (by omega)]; rfl
  · rw [wk_s00 (by omega) (by omega)]; rfl
  · intro n z
    rw [wk_s00 (by omega) (by omega), h5 n z]; rfl
  · rw [wk_s00 (by omega) (by omega)]; rfl
  · rw [wk_s00 (by omega) (by omega)]; rfl
  · rw [wk_s00 (by omega) (by omega)]; omega
  · rw [wk_s00 (by omega) (by omega)] at z2; exact absurd z2 (by omega)
  · rw [wk_s00 (by omega) (by omega)]; rfl
  · intro n c z1 z2
    rw [wk_s00 (by omega) (by omega), wk_v0 hP]
    exact h12 n c z1 z2
  · rw [wk_s00 (by omega) (by omega)]; rfl
  · rw [wk_s00 (by omega) (by omega)]; rfl
  · intro p hp
    refine ⟨⟨?_, ?_⟩, fun c hc => ?_, fun e => ?_⟩
    · rw [wk_s00 (by omega) (by omega)]; omega
    · rw [wk_s00 (by omega) (by omega)]; omega
    · rw [wk_s00 (by omega) (by omega)]; rfl
    · rw [wk_s00 (by omega) (by omega)] at e; exact absurd e (by omega)
  · refine ⟨⟨?_, ?_⟩, fun c hc => ?_, fun e => ?_⟩
    · rw [wk_0b _ (by omega)]; omega
    · rw [wk_0b _ (by omega)]; omega
    · rw [wk_0b _ (by omega)]; rfl
    · rw [wk_0b _ (by omega)] at e; exact absurd e (by omega)
theorem wk_init {post : St2 → Prop} (hP : P.1 < 6 ∧ P.2.1 < 4) (h0 : em_sx em_s0 ≠ 0) (hp : ∀ M' u', ra_R P M' (em_sx em_s0) u' → post u') : wpX_init post 17 1850 (0, 0, 0, 0) := by
  unfold wpX_init
  dsimp only
  refine ⟨by decide, by decide, by decide, by decide, by decide, by decide, by decide, by decide, by decide, by decide, by decide, by decide, by decide, by decide, by decide, by decide, by decide, by decide, by decide, by decide, by decide, by decide, by decide, by decide, by decide, by decide, by decide, by decide, by decide, by decide, by decide, by decide, by decide, by decide, 6, ?_⟩
  refine br_f (by decide) ⟨pk_in 0 5 (by decide), nm_e ⟨pk_in 0 5 (by decide), nm_e ⟨pk_in 14 75 (by decide), nm_e ⟨pk_in 14 75 (by decide), nm_e (nm_r (e' := 1) (by decide) ?_)⟩⟩⟩⟩
  refine br_f (by decide) ⟨pk_in 1 5 (by decide), nm_e ⟨pk_in 1 5 (by decide), nm_e ⟨pk_in 29 75 (by decide), nm_e ⟨pk_in 29 75 (by decide), nm_e (nm_r (e' := 2) (by decide) ?_)⟩⟩⟩⟩
  refine br_f (by decide) ⟨pk_in 2 5 (by decide), nm_e ⟨pk_in 2 5 (by decide), nm_e ⟨pk_in 44 75 (by decide), nm_e ⟨pk_in 44 75 (by decide), nm_e (nm_r (e' := 3) (by decide) ?_)⟩⟩⟩⟩
  refine br_f (by decide) ⟨pk_in 3 5 (by decide), nm_e ⟨pk_in 3 5 (by decide), nm_e ⟨pk_in 59 75 (by decide), nm_e ⟨pk_in 59 75 (by decide), nm_e (nm_r (e' := 4) (by decide) ?_)⟩⟩⟩⟩
  refine br_f (by decide) ⟨pk_in 4 5 (by decide), nm_e ⟨pk_in 4 5 (by decide), nm_e ⟨pk_in 74 75 (by decide), nm_e ⟨pk_in 74 75 (by decide), nm_e (nm_r (e' := 5) (by decide) ?_)⟩⟩⟩⟩
  refine br_t (by decide) (wk_settle (wk_R0 hP ?_ ?_ ?_) h0 (fun M' u' hu => ?_))
  · intro n hn
    match n, hn with
    | 0, _ => rfl
    | 1, _ => rfl
    | 2, _ => rfl
    | 3, _ => rfl
    | 4, _ => rfl
  · intro n hn
    match n, hn with
    | 0, _ => rfl
    | 1, _ => rfl
    | 2, _ => rfl
    | 3, _ => rfl
    | 4, _ => rfl
  · intro n c hn hc
    show upd (upd (upd (upd (upd (fun _ => 0) 14 31) 29 31) 44 31) 59 31) 74 31 (15 * n + c) = _
    by_cases e : c = 14
    · rw [if_pos e, e]
      match n, hn with
      | 0, _ => rfl
      | 1, _ => rfl
      | 2, _ => rfl
      | 3, _ => rfl
      | 4, _ => rfl
    · rw [if_neg e, pk_un (by omega), pk_un (by omega), pk_un (by omega), pk_un (by omega), pk_un (by omega)]
  · obtain ⟨f1, f2, f3, f4, a1, a2, a3, a4, a5, a6, a7, a8, a9, a10, a11, a12, a13, a14, a15, a16, a17⟩ := u'
    exact hp _ _ hu
end
end
section
/-! ===== checking all logs ===== -/
section
variable {P : ra_P} {M S : Nat}
theorem wk_all {f : Nat → Bool} : ∀ m, em_all f m = true → ∀ j, j < m → f j = true := by
  intro m
  induction m with
  | zero => intro _ j hj; exact absurd hj (by omega)
  | succ m ih =>
    intro h j hj
    have h : em_a (f m) (em_all f m) = true := h
    obtain ⟨h1, h2⟩ := by_a.mp h
    by_cases e : j = m
    · rw [e]; exact h1
    · exact ih h2 j (by omega)
theorem wk_expect {u : St2} {post : St2 → Prop} (h : ra_R P M S u) (hp : post u) : wpX_expect post u 1 := by
  obtain ⟨f1, f2, f3, f4, a1, a2, a3, a4, a5, a6, a7, a8, a9, a10, a11, a12, a13, a14, a15, a16, a17⟩ := u
  obtain ⟨hP, hF, h1, h2, h3, h4, h5, h6, h7, h8, h9, hn, h10, h11, h12, h14, h15, h16, h17⟩ := h
  refine br_f (by decide) (nm_r (e' := f4) ?_ hp)
  rw [hF.2.2.2.2.2]
  rfl
theorem wk_sameEntry_l {f1 f2 f3 f4 : Int32} {a1 a2 a3 a4 a5 a6 a7 a8 a9 a10 a11 a12 a13 a14 a15 a16 a17 : Nat → Int32} {n o j : Nat} {post : Int32 → Prop} (h : ra_R P M S (f1, f2, f3, f4, a1, a2, a3, a4, a5, a6, a7, a8, a9, a10, a11, a12, a13, a14, a15, a16, a17)) (hk : n < 5) (ho : o < 5) (hj : j < em_g S (32 + n)) (hj2 : j < em_g S (32 + o)) (e1 : em_g S (97 + 16 * n + j) = em_g S (97 + 16 * o + j)) (e2 : em_g S (177 + 16 * n + j) = em_g S (177 + 16 * o + j)) (hp : post 1) :
    ∀ f k, k + f = 7 → wX_isSameEntry_19 post (nI (7 * (16 * n + j))) (nI (7 * (16 * o + j))) f1 f2 f3 f4 a1 a2 a3 a4 a5 a6 a7 a8 a9 a10 a11 a12 a13 a14 a15 a16 a17 (f + 1) (nI k) := by
  obtain ⟨hP, hF, h1, h2, h3, h4, h5, h6, h7, h8, h9, hn, h10, h11, h12, h14, h15, h16, h17⟩ := h
  have l1 := hn n hk
  have l2 := hn o ho
  intro f
  induction f with
  | zero =>
    intro k e
    exact pk_le 7 k (fun _ => hp) (fun z => absurd z (by omega))
  | succ f ih =>
    intro k e
    refine pk_le 7 k (fun z => absurd z (by omega)) (fun z => ?_)
    rw [nI_add, nI_add, nI_clamp (by omega), nI_clamp (by omega), h10 n j k hk hj z, h10 o j k ho hj2 z, e1, e2]
    exact ⟨vp_in_nI (by omega) (by decide), vp_in_nI (by omega) (by decide), br_t rfl (nm_r (nI_1 k) (ih (k + 1) (by omega)))⟩
theorem wk_isSameEntry {f1 f2 f3 f4 : Int32} {a1 a2 a3 a4 a5 a6 a7 a8 a9 a10 a11 a12 a13 a14 a15 a16 a17 : Nat → Int32} {n o j : Nat} {post : Int32 → Prop} (h : ra_R P M S (f1, f2, f3, f4, a1, a2, a3, a4, a5, a6, a7, a8, a9, a10, a11, a12, a13, a14, a15, a16, a17)) (hk : n < 5) (ho : o < 5) (hj : j < em_g S (32 + n)) (hj2 : j < em_g S (32 + o)) (e1 : em_g S (97 + 16 * n + j) = em_g S (97 + 16 * o + j)) (e2 : em_g S (177 + 16 * n + j) = em_g S (177 + 16 * o + j)) (hp : post 1) :
    wpX_isSameEntry post (f1, f2, f3, f4, a1, a2, a3, a4, a5, a6, a7, a8, a9, a10, a11, a12, a13, a14, a15, a16, a17) (nI n) (nI o) (nI (j + 1)) := by
  unfold wpX_isSameEntry
  dsimp only
  exact wk_cellOf h hk (wk_cellOf h ho ⟨8, wk_sameEntry_l h hk ho hj hj2 e1 e2 hp 7 0 rfl⟩)
theorem wk_c140 {f1 f2 f3 f4 : Int32} {a1 a2 a3 a4 a5 a6 a7 a8 a9 a10 a11 a12 a13 a14 a15 a16 a17 : Nat → Int32} {n o j : Nat} {x4 x6 : Int32} {post : St2 → Prop} {J : Int32 → Int32 → Int32 → Int32 → Int32 → (Nat → Int32) → (Nat → Int32) → (Nat → Int32) → (Nat → Int32) → (Nat → Int32) → (Nat → Int32) → (Nat → Int32) → (Nat → Int32) → (Nat → Int32) → (Nat → Int32) → (Nat → Int32) → (Nat → Int32) → (Nat → Int32) → (Nat → Int32) → (Nat → Int32) → (Nat → Int32) → (Nat → Int32) → Prop} (h : ra_R P M S (f1, f2, f3, f4, a1, a2, a3, a4, a5, a6, a7, a8, a9, a10, a11, a12, a13, a14, a15, a16, a17)) (hk : n < 5) (ho : o < 5) (hj : j < em_g S (32 + n)) (hj2 : j < em_g S (32 + o))
    (hs : ¬ x6 = 0 → em_g S (97 + 16 * n + j) = em_g S (97 + 16 * o + j) ∧ em_g S (177 + 16 * n + j) = em_g S (177 + 16 * o + j)) (hJ : J (nI (j + 1 + 1)) f1 f2 f3 f4 a1 a2 a3 a4 a5 a6 a7 a8 a9 a10 a11 a12 a13 a14 a15 a16 a17) : wX_compare_140 post J (nI n) (nI o) x4 (nI (j + 1)) x6 1 f1 f2 f3 f4 a1 a2 a3 a4 a5 a6 a7 a8 a9 a10 a11 a12 a13 a14 a15 a16 a17 := by
  have K : wX_compare_160 post J (nI n) (nI o) x4 (nI (j + 1)) f1 f2 f3 f4 a1 a2 a3 a4 a5 a6 a7 a8 a9 a10 a11 a12 a13 a14 a15 a16 a17 := by
    unfold wX_compare_160 wX_compare_165
    exact wk_expect h (nm_r (nI_1 _) hJ)
  unfold wX_compare_140
  exact wk_expect h (br_c (fun _ => K) (fun z => wk_isSameEntry h hk ho hj hj2 (hs z).1 (hs z).2 (br_f (by decide) K)))
theorem wk_compare_l {f1 f2 f3 f4 : Int32} {a1 a2 a3 a4 a5 a6 a7 a8 a9 a10 a11 a12 a13 a14 a15 a16 a17 : Nat → Int32} {n o E : Nat} {post : St2 → Prop} (h : ra_R P M S (f1, f2, f3, f4, a1, a2, a3, a4, a5, a6, a7, a8, a9, a10, a11, a12, a13, a14, a15, a16, a17)) (hk : n < 5) (ho : o < 5) (hE : E ≤ em_g S (32 + n)) (hE2 : E ≤ em_g S (32 + o)) (hc : ∀ j, j < E → em_fp S n o j = true) (hv : em_g S (37 + n) = em_g S (37 + o) → em_g S (42 + n) = em_g S (42 + o)) (hp : post (f1, f2, f3, f4, a1, a2, a3, a4, a5, a6, a7, a8, a9, a10, a11, a12, a13, a14, a15, a16, a17)) :
    ∀ f j, j + f = E → wX_compare_64 post (nI n) (nI o) (nI E) (f + 1) (nI (j + 1)) f1 f2 f3 f4 a1 a2 a3 a4 a5 a6 a7 a8 a9 a10 a11 a12 a13 a14 a15 a16 a17 := by
  have h' := h
  obtain ⟨hP, hF, h1, h2, h3, h4, h5, h6, h7, h8, h9, hn, h10, h11, h12, h14, h15, h16, h17⟩ := h
  have l1 := hn n hk
  have l2 := hn o ho
  have lc1 := by_lt S (37 + n)
  have lc2 := by_lt S (37 + o)
  have K : wX_compare_199 post f1 f2 f3 f4 a1 a2 a3 a4 a5 a6 a7 a8 a9 a10 a11 a12 a13 a14 a15 a16 a17 := by
    unfold wX_compare_199 wX_compare_204
    exact wk_expect h' hp
  intro f
  induction f with
  | zero =>
    intro j e
    refine pk_lt E (j + 1) (fun _ => ⟨pk_in n 5 hk, pk_in o 5 ho, ?_⟩) (fun z => absurd z (by omega))
    rw [nI_clamp (show n < 2 ^ 31 by omega), nI_clamp (show o < 2 ^ 31 by omega), h11 n hk, h11 o ho]
    exact pk_eq (em_g S (37 + n)) (em_g S (37 + o)) (fun z => wk_areSame h' hk ho (fun _ => br_f (by decide) K) (fun q => absurd (hv z) q)) (fun _ => K)
  | succ f ih =>
    intro j e
    have t := ih (j + 1) (by omega)
    have c := hc j (by omega)
    have C : em_fp S n o j = em_a (em_o (Nat.beq (em_ta S n (j + 1)) (em_ta S o (j + 1))) (em_n (em_a (Nat.ble (j + 1) (em_g S (37 + n))) (Nat.ble (j + 1) (em_g S (37 + o))))))
      (em_o (em_n (Nat.beq (em_ta S n (j + 1)) (em_ta S o (j + 1)))) (Nat.beq (em_g S (177 + (16 * n + j))) (em_g S (177 + (16 * o + j))))) := rfl
    rw [C, wk_ta1, wk_ta1, show 177 + (16 * n + j) = 177 + 16 * n + j by omega, show 177 + (16 * o + j) = 177 + 16 * o + j by omega] at c
    obtain ⟨c1, c2⟩ := by_a.mp c
    have t1 := by_lt S (97 + 16 * n + j)
    have t2 := by_lt S (97 + 16 * o + j)
    refine pk_lt E (j + 1) (fun z => absurd z (by omega)) (fun z => wk_termAt h' hk (by omega) (wk_termAt h' ho (by omega) ?_))
    rw [wk_ta1, wk_ta1]
    have Q1 : ∀ x6 : Int32, (¬ x6 = 0 → em_g S (97 + 16 * n + j) = em_g S (97 + 16 * o + j)) → wX_compare_135 post (wX_compare_64 post (nI n) (nI o) (nI E) (f + 1)) (nI n) (nI o) (nI E) (nI (j + 1)) x6 f1 f2 f3 f4 a1 a2 a3 a4 a5 a6 a7 a8 a9 a10 a11 a12 a13 a14 a15 a16 a17 := by
      intro x6 hx
      unfold wX_compare_135
      refine wk_c140 h' hk ho (by omega) (by omega) (fun q => ⟨hx q, ?_⟩) t
      rcases by_o.mp c2 with q2 | q2
      · exact absurd (hx q) (by_bef.mp (by_n.mp q2))
      · exact by_be.mp q2
    refine pk_eq (em_g S (97 + 16 * n + j)) (em_g S (97 + 16 * o + j)) (fun q => ?_) (fun q => ?_)
    · unfold wX_compare_93
      have Q2 : ∀ z0 : Int32, wX_compare_122 post (wX_compare_64 post (nI n) (nI o) (nI E) (f + 1)) (nI n) (nI o) (nI E) (nI (j + 1)) 1 z0 f1 f2 f3 f4 a1 a2 a3 a4 a5 a6 a7 a8 a9 a10 a11 a12 a13 a14 a15 a16 a17 := by
        intro z0
        unfold wX_compare_122
        exact br_f (by decide) (Q1 1 (fun _ => q))
      exact ⟨pk_in n 5 hk, br_c (fun _ => Q2 0) (fun _ => ⟨pk_in o 5 ho, br_c (fun _ => Q2 0) (fun _ => Q2 1)⟩)⟩
    · unfold wX_compare_93
      rw [nI_clamp (show n < 2 ^ 31 by omega), nI_clamp (show o < 2 ^ 31 by omega), h11 n hk, h11 o ho]
      have Q3 : wX_compare_121 post (wX_compare_64 post (nI n) (nI o) (nI E) (f + 1)) (nI n) (nI o) (nI E) (nI (j + 1)) 0 f1 f2 f3 f4 a1 a2 a3 a4 a5 a6 a7 a8 a9 a10 a11 a12 a13 a14 a15 a16 a17 := by
        unfold wX_compare_121 wX_compare_122
        exact br_t rfl (br_t rfl (Q1 0 (fun q => absurd rfl q)))
      refine ⟨pk_in n 5 hk, pk_lt (em_g S (37 + n)) (j + 1) (fun _ => Q3) (fun z1 => ⟨pk_in o 5 ho, pk_lt (em_g S (37 + o)) (j + 1) (fun _ => Q3) (fun z2 => ?_)⟩)⟩
      exfalso
      rcases by_o.mp c1 with q2 | q2
      · exact q (by_be.mp q2)
      · rcases by_af.mp (by_n.mp q2) with q3 | q3
        · have := by_lef.mp q3; omega
        · have := by_lef.mp q3; omega
theorem wk_compare {n o : Nat} {u : St2} {post : St2 → Prop} (h : ra_R P M S u) (hk : n < 5) (ho : o < 5) (hc : em_fc S n o = true) (hp : post u) : wpX_compare post u (nI n) (nI o) := by
  have h' := h
  obtain ⟨f1, f2, f3, f4, a1, a2, a3, a4, a5, a6, a7, a8, a9, a10, a11, a12, a13, a14, a15, a16, a17⟩ := u
  obtain ⟨hP, hF, h1, h2, h3, h4, h5, h6, h7, h8, h9, hn, h10, h11, h12, h14, h15, h16, h17⟩ := h
  have l1 := hn n hk
  have l2 := hn o ho
  have C : em_fc S n o = em_a (em_all (fun j => em_fp S n o j) (em_c (Nat.ble (em_g S (32 + o)) (em_g S (32 + n))) (em_g S (32 + o)) (em_g S (32 + n)))) (em_o (em_n (Nat.beq (em_g S (37 + n)) (em_g S (37 + o)))) (Nat.beq (em_g S (42 + n)) (em_g S (42 + o)))) := rfl
  rw [C] at hc
  obtain ⟨c1, c2⟩ := by_a.mp hc
  have hv : em_g S (37 + n) = em_g S (37 + o) → em_g S (42 + n) = em_g S (42 + o) := by
    intro e
    rcases by_o.mp c2 with q | q
    · exact absurd e (by_bef.mp (by_n.mp q))
    · exact by_be.mp q
  unfold wpX_compare
  dsimp only
  rw [nI_clamp (show n < 2 ^ 31 by omega), nI_clamp (show o < 2 ^ 31 by omega), h7 n hk, h7 o ho]
  refine ⟨pk_in n 5 hk, pk_in o 5 ho, br_t (by decide) ⟨pk_in o 5 ho, ?_⟩⟩
  unfold wX_compare_30
  refine wk_lastOf h' hk (wk_lastOf h' ho (pk_le (em_g S (32 + o)) (em_g S (32 + n)) (fun z => wk_lastOf h' ho (nm_r (e' := nI (0 + 1)) rfl ⟨em_g S (32 + o) + 1, ?_⟩)) (fun z => wk_lastOf h' hk (nm_r (e' := nI (0 + 1)) rfl ⟨em_g S (32 + n) + 1, ?_⟩))))
  · rw [by_ct (by_le.mpr z)] at c1
    exact wk_compare_l h' hk ho z (Nat.le_refl _) (wk_all _ c1) hv hp (em_g S (32 + o)) 0 (by omega)
  · rw [by_cf (by_lef.mpr z)] at c1
    exact wk_compare_l h' hk ho (Nat.le_refl _) (by omega) (wk_all _ c1) hv hp (em_g S (32 + n)) 0 (by omega)
theorem wk_f164 {f1 f2 f3 f4 : Int32} {a1 a2 a3 a4 a5 a6 a7 a8 a9 a10 a11 a12 a13 a14 a15 a16 a17 : Nat → Int32} {post : Int32 → St2 → Prop} (h : ra_R P M S (f1, f2, f3, f4, a1, a2, a3, a4, a5, a6, a7, a8, a9, a10, a11, a12, a13, a14, a15, a16, a17)) (hc : ∀ k, k < 25 → em_fc S (k / 5) (k % 5) = true) (hp : post 0 (f1, f2, f3, f4, a1, a2, a3, a4, a5, a6, a7, a8, a9, a10, a11, a12, a13, a14, a15, a16, a17)) : ∀ f k, k + f = 25 → wX_faults_164 post (f + 1) (nI k) f1 f2 f3 f4 a1 a2 a3 a4 a5 a6 a7 a8 a9 a10 a11 a12 a13 a14 a15 a16 a17 := by
  intro f
  induction f with
  | zero =>
    intro k e
    obtain ⟨hP, hF, h1, h2, h3, h4, h5, h6, h7, h8, h9, hn, h10, h11, h12, h14, h15, h16, h17⟩ := h
    have e4 := hF.2.2.2.2.2
    refine pk_le 25 k (fun _ => ?_) (fun z => absurd z (by omega))
    subst e4
    exact hp
  | succ f ih =>
    intro k e
    refine pk_le 25 k (fun z => absurd z (by omega)) (fun z => ⟨by decide, by decide, ?_⟩)
    rw [wk_5, pk_rem (by omega) (by omega) (by omega), pk_div (by omega) (by omega) (by omega)]
    exact wk_compare h (by omega) (by omega) (hc k z) (nm_r (nI_1 k) (ih (k + 1) (by omega)))
theorem wk_f79 {f1 f2 f3 f4 : Int32} {a1 a2 a3 a4 a5 a6 a7 a8 a9 a10 a11 a12 a13 a14 a15 a16 a17 : Nat → Int32} {n : Nat} {x1 : Int32} {post : Int32 → St2 → Prop} {J : Int32 → Int32 → Int32 → Int32 → Int32 → Int32 → (Nat → Int32) → (Nat → Int32) → (Nat → Int32) → (Nat → Int32) → (Nat → Int32) → (Nat → Int32) → (Nat → Int32) → (Nat → Int32) → (Nat → Int32) → (Nat → Int32) → (Nat → Int32) → (Nat → Int32) → (Nat → Int32) → (Nat → Int32) → (Nat → Int32) → (Nat → Int32) → (Nat → Int32) → Prop} (h : ra_R P M S (f1, f2, f3, f4, a1, a2, a3, a4, a5, a6, a7, a8, a9, a10, a11, a12, a13, a14, a15, a16, a17)) (hk : n < 5) (hc : ∀ j, j < em_g S (32 + n) → em_fe S n j = true) (hJ : J x1 (nI (n + 1)) f1 f2 f3 f4 a1 a2 a3 a4 a5 a6 a7 a8 a9 a10 a11 a12 a13 a14 a15 a16 a17) :
    ∀ f j, j + f = em_g S (32 + n) → wX_faults_79 post J x1 (nI n) (f + 1) (nI (j + 1)) f1 f2 f3 f4 a1 a2 a3 a4 a5 a6 a7 a8 a9 a10 a11 a12 a13 a14 a15 a16 a17 := by
  have h' := h
  obtain ⟨hP, hF, h1, h2, h3, h4, h5, h6, h7, h8, h9, hn, h10, h11, h12, h14, h15, h16, h17⟩ := h
  have l1 := hn n hk
  have lt := by_lt S (17 + n)
  intro f
  induction f with
  | zero =>
    intro j e
    unfold wX_faults_79
    exact wk_lastOf h' hk (pk_lt (em_g S (32 + n)) (j + 1) (fun _ => nm_r (nI_1 n) hJ) (fun z => absurd z (by omega)))
  | succ f ih =>
    intro j e
    have t := ih (j + 1) (by omega)
    have c := hc j (by omega)
    have C : em_fe S n j = em_a (Nat.ble (em_ta S n j) (em_ta S n (j + 1))) (Nat.ble (em_ta S n (j + 1)) (em_g S (17 + n))) := rfl
    rw [C] at c
    obtain ⟨c1, c2⟩ := by_a.mp c
    have c1 := by_le.mp c1
    have c2 := by_le.mp c2
    have t1 := wk_ta_lt (S := S) n j
    have t2 := wk_ta_lt (S := S) n (j + 1)
    unfold wX_faults_79
    rw [nI_pred, nI_clamp (show n < 2 ^ 31 by omega), h4 n hk]
    refine wk_lastOf h' hk (pk_lt (em_g S (32 + n)) (j + 1) (fun z => absurd z (by omega)) (fun z => wk_termAt h' hk (by omega) (wk_termAt h' hk (by omega) (pk_lt (em_ta S n (j + 1)) (em_ta S n j) (fun q => absurd q (by omega)) (fun q => wk_termAt h' hk (by omega) ⟨pk_in n 5 hk, pk_lt (em_g S (17 + n)) (em_ta S n (j + 1)) (fun q => absurd q (by omega)) (fun q => ?_)⟩)))))
    unfold wX_faults_126
    exact wk_expect h' (nm_r (nI_1 _) t)
theorem wk_lnE (n : Nat) : em_ln S (n + 1) = em_ln S n + em_c (Nat.beq (em_g S (12 + n)) 1) 1 0 := rfl
theorem wk_ln_le : ∀ n, em_ln S n ≤ n := by
  intro n
  induction n with
  | zero => exact Nat.le_refl 0
  | succ n ih =>
    rw [wk_lnE]
    cases Nat.beq (em_g S (12 + n)) 1 with
    | true => rw [by_ct rfl]; omega
    | false => rw [by_cf rfl]; omega
theorem wk_f9 {f1 f2 f3 f4 : Int32} {a1 a2 a3 a4 a5 a6 a7 a8 a9 a10 a11 a12 a13 a14 a15 a16 a17 : Nat → Int32} {post : Int32 → St2 → Prop} (h : ra_R P M S (f1, f2, f3, f4, a1, a2, a3, a4, a5, a6, a7, a8, a9, a10, a11, a12, a13, a14, a15, a16, a17)) (hc : ∀ n, n < 5 → em_fn S n = true) (hl : em_ln S 5 ≤ 1) (hw : em_g S 1 = 0) (hd : ∀ k, k < 25 → em_fc S (k / 5) (k % 5) = true) (hp : post 0 (f1, f2, f3, f4, a1, a2, a3, a4, a5, a6, a7, a8, a9, a10, a11, a12, a13, a14, a15, a16, a17)) :
    ∀ f n, n + f = 5 → wX_faults_9 post (f + 1) (nI (em_ln S n)) (nI n) f1 f2 f3 f4 a1 a2 a3 a4 a5 a6 a7 a8 a9 a10 a11 a12 a13 a14 a15 a16 a17 := by
  have h' := h
  obtain ⟨hP, hF, h1, h2, h3, h4, h5, h6, h7, h8, h9, hn, h10, h11, h12, h14, h15, h16, h17⟩ := h
  intro f
  induction f with
  | zero =>
    intro n e
    have : n = 5 := by omega
    subst this
    refine br_t (by decide) (pk_le 2 (em_ln S 5) (fun z => absurd z (by omega)) (fun z => br_t ?_ ?_))
    · rw [hF.2.2.1, hw]; rfl
    · unfold wX_faults_159
      exact wk_expect h' ⟨26, wk_f164 h' hd hp 25 0 rfl⟩
  | succ f ih =>
    intro n e
    have t := ih (n + 1) (by omega)
    have hk : n < 5 := by omega
    have l1 := hn n hk
    have lc := by_lt S (37 + n)
    have lr := by_lt S (12 + n)
    have ll := wk_ln_le (S := S) n
    have c := hc n hk
    have C : em_fn S n = em_a (Nat.ble (em_g S (37 + n)) (em_g S (32 + n))) (em_all (fun j => em_fe S n j) (em_g S (32 + n))) := rfl
    rw [C] at c
    obtain ⟨c1, c2⟩ := by_a.mp c
    have c1 := by_le.mp c1
    have c2 := wk_all _ c2
    have K : ∀ x1 : Int32, x1 = nI (em_ln S (n + 1)) → wX_faults_67 post (wX_faults_9 post (f + 1)) x1 (nI n) 1 f1 f2 f3 f4 a1 a2 a3 a4 a5 a6 a7 a8 a9 a10 a11 a12 a13 a14 a15 a16 a17 := by
      intro x1 hx
      subst hx
      unfold wX_faults_67
      refine wk_expect h' ⟨pk_in n 5 hk, nm_r (e' := nI (0 + 1)) ?_ ⟨_, wk_f79 h' hk c2 t (em_g S (32 + n)) 0 (by omega)⟩⟩
      rw [nI_clamp (show n < 2 ^ 31 by omega), h7 n hk]
      rfl
    have K2 : ∀ z0 : Int32, nI (em_ln S n) + z0 = nI (em_ln S (n + 1)) → wX_faults_30 post (wX_faults_9 post (f + 1)) (nI n) z0 (nI (em_ln S n)) f1 f2 f3 f4 a1 a2 a3 a4 a5 a6 a7 a8 a9 a10 a11 a12 a13 a14 a15 a16 a17 := by
      intro z0 hz
      unfold wX_faults_30
      rw [nI_clamp (show n < 2 ^ 31 by omega), h7 n hk, h11 n hk]
      refine nm_r hz ⟨pk_in n 5 hk, pk_in n 5 hk, br_f (nI_pos (by omega)) ⟨pk_in n 5 hk, wk_lastOf h' hk (br_f (nI_nlt c1 (by omega)) (K _ rfl))⟩⟩
    refine pk_le 5 n (fun z => absurd z (by omega)) (fun z => ⟨pk_in n 5 hk, ?_⟩)
    rw [nI_clamp (show n < 2 ^ 31 by omega), h3 n hk]
    refine pk_eq (em_g S (12 + n)) 1 (fun q => K2 1 ?_) (fun q => K2 0 ?_)
    · rw [wk_lnE, by_ct (by_be.mpr q), nI_1]
    · rw [wk_lnE, by_cf (by_bef.mpr q)]
      exact nI_add _ 0
theorem wk_faults {u : St2} {post : Int32 → St2 → Prop} (h : ra_R P M S u) (hc : em_fa S = true) (hp : post 0 u) : wpX_faults post u := by
  have h' := h
  obtain ⟨f1, f2, f3, f4, a1, a2, a3, a4, a5, a6, a7, a8, a9, a10, a11, a12, a13, a14, a15, a16, a17⟩ := u
  obtain ⟨hP, hF, h1, h2, h3, h4, h5, h6, h7, h8, h9, hn, h10, h11, h12, h14, h15, h16, h17⟩ := h
  have e4 := hF.2.2.2.2.2
  subst e4
  have C : em_fa S = em_a (em_all (fun n => em_fn S n) 5) (em_a (Nat.ble (em_ln S 5) 1) (em_a (Nat.beq (em_g S 1) 0) (em_all (fun k => em_fc S (k / 5) (k % 5)) 25))) := rfl
  rw [C] at hc
  obtain ⟨c1, c2⟩ := by_a.mp hc
  obtain ⟨c2, c3⟩ := by_a.mp c2
  obtain ⟨c3, c4⟩ := by_a.mp c3
  exact ⟨6, wk_f9 h' (wk_all _ c1) (by_le.mp c2) (by_be.mp c3) (wk_all _ c4) hp 5 0 rfl⟩
theorem wk_pending {u : St2} {post : Int32 → Prop} (h : ra_R P M S u) (hp : post 0) : wpX_pending post u := by
  obtain ⟨f1, f2, f3, f4, a1, a2, a3, a4, a5, a6, a7, a8, a9, a10, a11, a12, a13, a14, a15, a16, a17⟩ := u
  obtain ⟨hP, hF, h1, h2, h3, h4, h5, h6, h7, h8, h9, hn, h10, h11, h12, h14, h15, h16, h17⟩ := h
  have e3 := hF.2.2.2.2.1
  subst e3
  exact br_t (by decide) hp
end
end
section
/-! ===== the law ===== -/
section
variable {P : ra_P}
theorem la_code (kd s k : Nat) : 6 * (4 * nI kd + nI s) + nI k = nI (6 * (4 * kd + s) + k) := by
  rw [show (6 : Int32) = nI 6 from rfl, show (4 : Int32) = nI 4 from rfl, pk_mul, nI_add, pk_mul, nI_add]
theorem la_c0 {s k : Int32} {post : Int32 → Prop} {s' k' : Nat} (hs : s = nI s') (hk : k = nI k') (hp : post (nI (6 * (4 * 0 + s') + k'))) : wpL_code post () 0 s k := by
  subst hs hk
  have e := la_code 0 s' k'
  show post _
  rw [← e] at hp
  exact hp
theorem la_c1 {s k : Int32} {post : Int32 → Prop} {s' k' : Nat} (hs : s = nI s') (hk : k = nI k') (hp : post (nI (6 * (4 * 1 + s') + k'))) : wpL_code post () 1 s k := by
  subst hs hk
  have e := la_code 1 s' k'
  show post _
  rw [← e] at hp
  exact hp
theorem la_c2 {s k : Int32} {post : Int32 → Prop} {s' k' : Nat} (hs : s = nI s') (hk : k = nI k') (hp : post (nI (6 * (4 * 2 + s') + k'))) : wpL_code post () 2 s k := by
  subst hs hk
  have e := la_code 2 s' k'
  show post _
  rw [← e] at hp
  exact hp
theorem la_sub1 {M S : Nat} {u : St2} {post : Int32 → St2 → Prop} (h : ra_R P M S u) (h0 : em_su S 1 ≠ 0) (hp : ∀ M' u', ra_R P M' (em_su S 1) u' → post 0 u') : wpX_submit post u (nI (6 * (4 * 0 + P.2.1) + P.1)) 1 P.2.2.2 0 :=
  wk_submit (c := 1) (kd := 0) h ⟨by decide, by decide⟩ (by decide) rfl h0 hp
theorem la_sub2 {M S : Nat} {u : St2} {post : Int32 → St2 → Prop} (h : ra_R P M S u) (h0 : em_su S 2 ≠ 0) (hp : ∀ M' u', ra_R P M' (em_su S 2) u' → post 0 u') : wpX_submit post u (nI (6 * (4 * 1 + P.2.1) + P.1)) 2 P.2.2.1 0 :=
  wk_submit (c := 2) (kd := 1) h ⟨by decide, by decide⟩ (by decide) rfl h0 hp
theorem la_sub3 {M S : Nat} {u : St2} {post : Int32 → St2 → Prop} (h : ra_R P M S u) (h0 : em_su S 3 ≠ 0) (hp : ∀ M' u', ra_R P M' (em_su S 3) u' → post 0 u') : wpX_submit post u (nI (6 * (4 * 2 + P.2.1) + P.1)) 3 (P.2.2.2 + P.2.2.1) 77 :=
  wk_submit (c := 3) (kd := 2) h ⟨by decide, by decide⟩ (by decide) rfl h0 hp
theorem la_sub4 {M S : Nat} {u : St2} {post : Int32 → St2 → Prop} (h : ra_R P M S u) (h0 : em_su S 4 ≠ 0) (hp : ∀ M' u', ra_R P M' (em_su S 4) u' → post 0 u') : wpX_submit post u (nI (6 * (4 * 2 + P.2.1) + P.1)) 4 78 5 :=
  wk_submit (c := 4) (kd := 2) h ⟨by decide, by decide⟩ (by decide) rfl h0 hp
theorem la_529 {M S : Nat} {f1 f2 f3 f4 : Int32} {a1 a2 a3 a4 a5 a6 a7 a8 a9 a10 a11 a12 a13 a14 a15 a16 a17 : Nat → Int32} {a b e f th ot la mc ms kc ks : Nat} {z0 z1 : Int32} {post : Int32 → St0 → Prop} (h : ra_R P M S (f1, f2, f3, f4, a1, a2, a3, a4, a5, a6, a7, a8, a9, a10, a11, a12, a13, a14, a15, a16, a17)) (ha : a < 5) (hb : b < 5) (hth : th < 5) (hot : ot < 5) (hla : la < 5) (he : (P.2.2.1 >>> ((10 : Int32) &&& 31)) &&& 1 = nI e) (he2 : e < 2) (hf : P.2.2.2 &&& 1 = nI f) (hf2 : f < 2)
    (hz : z1 = z0) (h0 : em_r2b S a b e th ot la ≠ 0) (hp : post 1 ()) : wL_lawOf_529 post mc ms P.2.2.1 P.2.2.2 (nI P.1) (nI P.2.1) (nI a) (nI b) (nI th) (nI ot) (nI la) z0 z1 kc ks f1 f2 f3 f4 a1 a2 a3 a4 a5 a6 a7 a8 a9 a10 a11 a12 a13 a14 a15 a16 a17 := by
  obtain ⟨k1, h0⟩ := by_k h0
  obtain ⟨k1, k2⟩ := by_a.mp k1
  have k1 : em_g S (42 + a) = 2 := by_be.mp k1
  have k2 : em_g S (42 + b) = 1 := by_be.mp k2
  obtain ⟨b1, h0, _⟩ := by_b h0
  obtain ⟨k3, h0⟩ := by_k h0
  obtain ⟨k3, k4⟩ := by_a.mp k3
  obtain ⟨k4, k5⟩ := by_a.mp k4
  obtain ⟨k5, k6⟩ := by_a.mp k5
  have k3 : em_le (em_su S 3) < 5 := by_le.mp k3
  have k4 : em_g (em_su S 3) (42 + em_le (em_su S 3)) = 3 := by_be.mp k4
  have k5 : em_g (em_su S 3) (42 + ot) = 2 := by_be.mp k5
  have k6 : em_g (em_su S 3) (42 + a) = 3 := by_be.mp k6
  unfold wL_lawOf_529
  refine br_t hz (wk_local h ha (br_t (by rw [k1]; rfl) (wk_local h hb (br_t (by rw [k2]; rfl) (la_c2 rfl rfl (la_sub3 h b1 (fun M' u' hu => ?_)))))))
  obtain ⟨f1, f2, f3, f4, a1, a2, a3, a4, a5, a6, a7, a8, a9, a10, a11, a12, a13, a14, a15, a16, a17⟩ := u'
  dsimp only
  refine br_t rfl (wk_get hu (fun l => br_t (by rw [k4]; rfl) ?_) (fun l => absurd l (by omega)))
  generalize em_su S 3 = S3 at *
  clear h b1 k1 k2
  obtain ⟨b1, h0, _⟩ := by_b h0
  obtain ⟨k7, h0⟩ := by_k h0
  obtain ⟨k7, k8⟩ := by_a.mp k7
  obtain ⟨k8, k9⟩ := by_a.mp k8
  have k7 : em_le (em_su S3 4) < 5 := by_le.mp k7
  have k8 : em_g (em_su S3 4) (42 + em_le (em_su S3 4)) = 4 := by_be.mp k8
  have k9 : em_g (em_su S3 4) (42 + a) = 4 := by_be.mp k9
  refine wk_local hu hot (br_t (by rw [k5]; rfl) (wk_answer hu ha (br_t (by rw [k6]; rfl) (la_c2 rfl rfl (la_sub4 hu b1 (fun M' u' hu => ?_))))))
  obtain ⟨f1, f2, f3, f4, a1, a2, a3, a4, a5, a6, a7, a8, a9, a10, a11, a12, a13, a14, a15, a16, a17⟩ := u'
  dsimp only
  refine br_t rfl (wk_get hu (fun l => br_t (by rw [k8]; rfl) ?_) (fun l => absurd l (by omega)))
  generalize em_su S3 4 = S4 at *
  clear k3 k4 k5 k6 b1
  refine wk_answer hu ha (br_t (by rw [k9]; rfl) (la_c2 rfl rfl ?_))
  refine wk_submit_no (k := 4) (kd := 2) hu (by decide) (by decide) (fun z => absurd z (by decide)) (fun _ z => absurd z (by omega)) (fun _ _ => ⟨by omega, fun z => absurd z (by omega), fun _ => ?_⟩)
  dsimp only
  refine br_t rfl (la_c0 rfl rfl ?_)
  refine wk_submit_no (k := 2) (kd := 0) hu (by decide) (by decide) (fun z => absurd z (by decide)) (fun _ z => absurd z (by omega)) (fun _ _ => ⟨by omega, fun _ => ?_, fun z => absurd z (by omega)⟩)
  dsimp only
  refine br_t rfl (wk_get hu (fun l => br_t (by rw [k8]; rfl) ?_) (fun l => absurd l (by omega)))
  obtain ⟨k10, h0⟩ := by_k h0
  have k10 : em_g S4 (2 + th) = 1 := by_be.mp k10
  obtain ⟨b1, h0, _⟩ := by_b h0
  refine wk_stop hu hth k10 b1 (fun M' u' hu => ?_)
  obtain ⟨f1, f2, f3, f4, a1, a2, a3, a4, a5, a6, a7, a8, a9, a10, a11, a12, a13, a14, a15, a16, a17⟩ := u'
  dsimp only
  generalize em_sp0 S4 th = S5 at *
  clear k7 k8 k9 k10
  obtain ⟨k1, h0⟩ := by_k h0
  have k1 : em_g S5 (2 + la) = 1 := by_be.mp k1
  obtain ⟨b2, h0, _⟩ := by_b h0
  refine br_t rfl (wk_stop hu hla k1 b2 (fun M' u' hu => ?_))
  obtain ⟨f1, f2, f3, f4, a1, a2, a3, a4, a5, a6, a7, a8, a9, a10, a11, a12, a13, a14, a15, a16, a17⟩ := u'
  dsimp only
  generalize em_sp0 S5 la = S6 at *
  obtain ⟨k2, h0⟩ := by_k h0
  have k2 : em_le S6 = 5 := by_be.mp k2
  obtain ⟨k3, h0⟩ := by_k h0
  have k3 : em_g S6 (2 + ot) = 0 := by_be.mp k3
  obtain ⟨b3, h0, _⟩ := by_b h0
  refine br_t rfl (wk_leader hu (fun l => absurd k2 (by omega)) (fun l => br_t rfl (wk_start hu hot k3 b3 (fun M' u' hu => ?_))))
  obtain ⟨f1, f2, f3, f4, a1, a2, a3, a4, a5, a6, a7, a8, a9, a10, a11, a12, a13, a14, a15, a16, a17⟩ := u'
  dsimp only
  generalize em_sta S6 ot = S7 at *
  obtain ⟨k4, h0⟩ := by_k h0
  have k4 : em_g S7 (7 + b) = e + 1 := by_be.mp k4
  obtain ⟨b4, h0, _⟩ := by_b h0
  refine br_t rfl (wk_move (g := 0) hu hb (by decide) b4 (fun M' u' hu => ?_))
  obtain ⟨f1, f2, f3, f4, a1, a2, a3, a4, a5, a6, a7, a8, a9, a10, a11, a12, a13, a14, a15, a16, a17⟩ := u'
  dsimp only
  generalize em_mv S7 b 0 = S8 at *
  obtain ⟨k5, h0⟩ := by_k h0
  obtain ⟨k5, k6⟩ := by_a.mp k5
  obtain ⟨k6, k7⟩ := by_a.mp k6
  obtain ⟨k7, k8⟩ := by_a.mp k7
  have k5 : em_le S8 = a := by_be.mp k5
  have k6 : em_g S8 (42 + b) = 4 := by_be.mp k6
  have k7 : em_g S8 (42 + b) = em_g S8 (42 + ot) := by_be.mp k7
  have k8 : em_g S8 (42 + a) = em_g S8 (42 + b) := by_be.mp k8
  obtain ⟨k9, h0⟩ := by_k h0
  have k9 : em_g S8 (2 + th) = 0 := by_be.mp k9
  obtain ⟨b5, h0, _⟩ := by_b h0
  refine br_t ?_ (wk_leader hu (fun l => br_t (by rw [k5]) (wk_local hu hb (br_t (by rw [k6]; rfl) (wk_same hu hb hot (fun _ => br_t rfl (wk_same hu ha hb (fun _ => br_t rfl ?_) (fun z => absurd k8 z))) (fun z => absurd k7 z))))) (fun l => absurd l (by omega)))
  · rw [k4, he, show (1 : Int32) = nI 1 from rfl, nI_add, Nat.add_comm]
  have g2 : (1 : Int32) + (P.2.2.2 &&& 1) = nI (f + 1) := by
    rw [hf, show (1 : Int32) = nI 1 from rfl, nI_add, Nat.add_comm]
  refine nm_r g2 (wk_start hu hth k9 b5 (fun M' u' hu => ?_))
  obtain ⟨f1, f2, f3, f4, a1, a2, a3, a4, a5, a6, a7, a8, a9, a10, a11, a12, a13, a14, a15, a16, a17⟩ := u'
  dsimp only
  generalize em_sta S8 th = S9 at *
  obtain ⟨k10, h0⟩ := by_k h0
  have k10 : em_g S9 (2 + la) = 0 := by_be.mp k10
  obtain ⟨b6, h0, _⟩ := by_b h0
  refine br_t rfl (wk_start hu hla k10 b6 (fun M' u' hu => ?_))
  obtain ⟨f1, f2, f3, f4, a1, a2, a3, a4, a5, a6, a7, a8, a9, a10, a11, a12, a13, a14, a15, a16, a17⟩ := u'
  dsimp only
  generalize em_sta S9 la = S10 at *
  obtain ⟨c1, c2, _⟩ := by_b h0
  have h0 : em_r3 S10 a th la (f + 1) ≠ 0 := by
    have : f = 0 ∨ f = 1 := by omega
    rcases this with q | q
    · rw [q]; exact c1
    · rw [q]; exact c2
  obtain ⟨k1, h0⟩ := by_k h0
  have k1 : em_g S10 (7 + a) = 0 := by_be.mp k1
  obtain ⟨b1, h0, _⟩ := by_b h0
  refine br_t rfl (wk_move hu ha (by omega) b1 (fun M' u' hu => ?_))
  obtain ⟨f1, f2, f3, f4, a1, a2, a3, a4, a5, a6, a7, a8, a9, a10, a11, a12, a13, a14, a15, a16, a17⟩ := u'
  dsimp only
  generalize em_mv S10 a (f + 1) = S11 at *
  obtain ⟨k2, h0⟩ := by_k h0
  obtain ⟨k2, k3⟩ := by_a.mp k2
  have k2 : em_le S11 < 5 := by_le.mp k2
  have k3 : em_le S11 ≠ a := by_bef.mp (by_n.mp k3)
  obtain ⟨k4, h0⟩ := by_k h0
  have k4 : em_g S11 (7 + a) = f + 1 := by_be.mp k4
  obtain ⟨b2, h0, _⟩ := by_b h0
  refine br_t (by rw [k1]; rfl) (wk_leader hu (fun l => br_f (nI_pos (by omega)) (wk_leader hu (fun l => br_f (by rw [nI_eq (by omega) (by omega)]; exact k3) (wk_move (g := 0) hu ha (by decide) b2 (fun M' u' hu => ?_))) (fun l => absurd l (by omega)))) (fun l => absurd l (by omega)))
  obtain ⟨f1, f2, f3, f4, a1, a2, a3, a4, a5, a6, a7, a8, a9, a10, a11, a12, a13, a14, a15, a16, a17⟩ := u'
  dsimp only
  generalize em_mv S11 a 0 = S12 at *
  obtain ⟨k5, h0⟩ := by_k h0
  obtain ⟨k5, k6⟩ := by_a.mp k5
  obtain ⟨k6, k7⟩ := by_a.mp k6
  have k5 : em_g S12 (42 + a) = em_g S12 (42 + th) := by_be.mp k5
  have k6 : em_g S12 (42 + la) = 4 := by_be.mp k6
  refine br_t (by rw [k4]) (wk_same hu ha hth (fun _ => br_t rfl (wk_lastNumber hu hla (br_t (by rw [k6]; rfl) (wk_faults hu k7 (br_t rfl (wk_pending hu (br_t rfl hp))))))) (fun z => absurd k5 z))
end
end
section
/-! ===== the law's head, and what is owed ===== -/
section
variable {P : ra_P}
noncomputable def la_ot (a b t : Nat) (k : Nat) : Nat := Nat.rec (motive := fun _ => Nat) 0 (fun i ih => em_c (em_o (Nat.beq i a) (em_o (Nat.beq i b) (Nat.beq i t))) ih i) k
theorem la_otE (a b t k : Nat) : la_ot a b t (k + 1) = em_c (em_o (Nat.beq k a) (em_o (Nat.beq k b) (Nat.beq k t))) (la_ot a b t k) k := rfl
theorem la_tab0 : ∀ a, a < 5 → ∀ b, b < 5 → ∀ t, t < 5 → ((a = b ∨ t = a) ∨ t = b) ∨ (a + b + t + em_ot a b t ≤ 10 ∧ em_ot a b t < 5 ∧ em_la a b t < 5) := by decide +kernel
theorem la_tab (a : Nat) (ha : a < 5) (b : Nat) (hb : b < 5) (t : Nat) (ht : t < 5) (h1 : a ≠ b) (h2 : t ≠ a) (h3 : t ≠ b) : a + b + t + em_ot a b t ≤ 10 ∧ em_ot a b t < 5 ∧ em_la a b t < 5 := by
  rcases la_tab0 a ha b hb t ht with ((q | q) | q) | q
  · exact absurd q h1
  · exact absurd q h2
  · exact absurd q h3
  · exact q
theorem la_336 {M S : Nat} {f1 f2 f3 f4 : Int32} {a1 a2 a3 a4 a5 a6 a7 a8 a9 a10 a11 a12 a13 a14 a15 a16 a17 : Nat → Int32} {a b e f th mc ms kc ks : Nat} {post : Int32 → St0 → Prop} (h : ra_R P M S (f1, f2, f3, f4, a1, a2, a3, a4, a5, a6, a7, a8, a9, a10, a11, a12, a13, a14, a15, a16, a17)) (ha : a < 5) (hb : b < 5) (hab : a ≠ b) (hth : th < 5) (hta : th ≠ a) (htb : th ≠ b) (he : (P.2.2.1 >>> ((10 : Int32) &&& 31)) &&& 1 = nI e) (he2 : e < 2) (hf : P.2.2.2 &&& 1 = nI f) (hf2 : f < 2)
    (h0 : em_r2 S a b e th (em_ot a b th) (em_la a b th) ≠ 0) (hp : post 1 ()) :
    ∀ g k, k + g = 5 → wL_lawOf_336 post mc ms P.2.2.1 P.2.2.2 (nI P.1) (nI P.2.1) (nI a) (nI b) (nI th) kc ks f1 f2 f3 f4 a1 a2 a3 a4 a5 a6 a7 a8 a9 a10 a11 a12 a13 a14 a15 a16 a17 (g + 1) (nI (la_ot a b th k)) (nI k) := by
  obtain ⟨t1, t2, t3⟩ := la_tab a ha b hb th hth hab hta htb
  intro g
  induction g with
  | zero =>
    intro k ek
    have : k = 5 := by omega
    subst this
    have eo : la_ot a b th 5 = em_ot a b th := rfl
    have el : em_la a b th = 10 - a - b - th - em_ot a b th := rfl
    have e12 : (((10 - nI a) - nI b) - nI th) - nI (em_ot a b th) = nI (em_la a b th) := by
      rw [el, show (10 : Int32) = nI 10 from rfl, pk_sub (by omega), pk_sub (by omega), pk_sub (by omega), pk_sub (by omega)]
    rw [eo]
    generalize em_ot a b th = ot at *
    generalize em_la a b th = la at *
    refine br_t (by decide) (nm_r e12 ?_)
    obtain ⟨k1, h0⟩ := by_k h0
    have k1 : em_g S (2 + ot) = 1 := by_be.mp k1
    obtain ⟨b1, h0, _⟩ := by_b h0
    refine wk_stop h t2 k1 b1 (fun M' u' hu => ?_)
    obtain ⟨f1, f2, f3, f4, a1, a2, a3, a4, a5, a6, a7, a8, a9, a10, a11, a12, a13, a14, a15, a16, a17⟩ := u'
    dsimp only
    generalize em_sp0 S ot = S1 at *
    obtain ⟨k2, h0⟩ := by_k h0
    obtain ⟨k2, k3⟩ := by_a.mp k2
    have k2 : em_le S1 = 5 := by_be.mp k2
    have k3 : em_g S1 (42 + th) = 2 := by_be.mp k3
    obtain ⟨k4, h0⟩ := by_k h0
    have k4 : em_g S1 (7 + a) = 1 := by_be.mp k4
    obtain ⟨b2, h0, _⟩ := by_b h0
    refine br_t rfl (wk_leader hu (fun l => absurd k2 (by omega)) (fun _ => br_t rfl (la_c0 rfl rfl ?_)))
    refine wk_submit_no (k := 3) (kd := 0) hu (by decide) (by decide) (fun z => absurd z (by decide)) (fun _ _ => ?_) (fun _ z => absurd k2 (by omega))
    dsimp only
    refine br_t rfl (wk_get hu (fun l => absurd k2 (by omega)) (fun _ => br_t rfl (wk_canGet hu k2 (br_t rfl (wk_member hu ha k2 ?_)))))
    dsimp only
    refine br_t rfl (wk_local hu hth (br_t (by rw [k3]; rfl) (la_c0 rfl rfl ?_)))
    refine wk_submit_no (k := 0) (kd := 0) hu (by decide) (by decide) (fun _ => ?_) (fun z _ => absurd rfl z) (fun z _ => absurd rfl z)
    dsimp only
    refine br_t rfl (wk_move (g := 0) hu ha (by decide) b2 (fun M' u' hu => ?_))
    obtain ⟨f1, f2, f3, f4, a1, a2, a3, a4, a5, a6, a7, a8, a9, a10, a11, a12, a13, a14, a15, a16, a17⟩ := u'
    dsimp only
    generalize em_mv S1 a 0 = S2 at *
    obtain ⟨k5, h0⟩ := by_k h0
    have k5 : em_le S2 = em_c (Nat.ble la th) la th := by_be.mp k5
    refine br_t (by rw [k4]; rfl) (wk_leader hu (fun l => pk_le la th (fun z => ?_) (fun z => ?_)) (fun l => ?_))
    · rw [by_ct (by_le.mpr z)] at k5
      exact la_529 hu ha hb hth t2 t3 he he2 hf hf2 (by rw [k5]) h0 hp
    · rw [by_cf (by_lef.mpr z)] at k5
      exact la_529 hu ha hb hth t2 t3 he he2 hf hf2 (by rw [k5]) h0 hp
    · exfalso
      cases q : Nat.ble la th with
      | true => rw [q, by_ct rfl] at k5; omega
      | false => rw [q, by_cf rfl] at k5; omega
  | succ g ih =>
    intro k ek
    have t := ih (k + 1) (by omega)
    rw [la_otE] at t
    refine pk_le 5 k (fun z => absurd z (by omega)) (fun z => pk_eq k a (fun q => nm_r (nI_1 k) ?_) (fun q1 => pk_eq k b (fun q => nm_r (nI_1 k) ?_) (fun q2 => pk_eq k th (fun q => nm_r (nI_1 k) ?_) (fun q3 => nm_r (nI_1 k) ?_))))
    · rw [by_ct (by_o.mpr (Or.inl (by_be.mpr q)))] at t
      exact t
    · rw [by_ct (by_o.mpr (Or.inr (by_o.mpr (Or.inl (by_be.mpr q)))))] at t
      exact t
    · rw [by_ct (by_o.mpr (Or.inr (by_o.mpr (Or.inr (by_be.mpr q)))))] at t
      exact t
    · rw [by_cf (by_of.mpr ⟨by_bef.mpr q1, by_of.mpr ⟨by_bef.mpr q2, by_bef.mpr q3⟩⟩)] at t
      exact t
theorem la_215 {M S : Nat} {f1 f2 f3 f4 : Int32} {a1 a2 a3 a4 a5 a6 a7 a8 a9 a10 a11 a12 a13 a14 a15 a16 a17 : Nat → Int32} {a b e f th mc ms kc ks : Nat} {post : Int32 → St0 → Prop} (h : ra_R P M S (f1, f2, f3, f4, a1, a2, a3, a4, a5, a6, a7, a8, a9, a10, a11, a12, a13, a14, a15, a16, a17)) (ha : a < 5) (hb : b < 5) (hab : a ≠ b) (hth : th < 5) (hta : th ≠ a) (htb : th ≠ b) (he : (P.2.2.1 >>> ((10 : Int32) &&& 31)) &&& 1 = nI e) (he2 : e < 2) (hf : P.2.2.2 &&& 1 = nI f) (hf2 : f < 2)
    (h0 : em_r1 S a b e th ≠ 0) (hp : post 1 ()) : wL_lawOf_215 post mc ms P.2.2.1 P.2.2.2 (nI P.1) (nI P.2.1) (nI a) (nI b) (nI th) kc ks f1 f2 f3 f4 a1 a2 a3 a4 a5 a6 a7 a8 a9 a10 a11 a12 a13 a14 a15 a16 a17 := by
  obtain ⟨_, h0⟩ := by_k h0
  obtain ⟨b1, h0, _⟩ := by_b h0
  unfold wL_lawOf_215
  refine la_c1 rfl rfl (la_sub2 h b1 (fun M' u' hu => ?_))
  obtain ⟨f1, f2, f3, f4, a1, a2, a3, a4, a5, a6, a7, a8, a9, a10, a11, a12, a13, a14, a15, a16, a17⟩ := u'
  dsimp only
  generalize em_su S 2 = S1 at *
  obtain ⟨k1, h0⟩ := by_k h0
  obtain ⟨k1, k2⟩ := by_a.mp k1
  obtain ⟨k2, k3⟩ := by_a.mp k2
  obtain ⟨k3, k4⟩ := by_a.mp k3
  obtain ⟨k4, k5⟩ := by_a.mp k4
  have k1 : em_le S1 < 5 := by_le.mp k1
  have k2 : em_g S1 (42 + em_le S1) = 2 := by_be.mp k2
  have k3 : em_g S1 (42 + a) = 1 := by_be.mp k3
  have k4 : em_g S1 (42 + b) = 1 := by_be.mp k4
  have k5 : em_g S1 (42 + th) = 2 := by_be.mp k5
  have h0 : em_r2 S1 a b e th (em_ot a b th) (em_la a b th) ≠ 0 := by
    intro z
    apply h0
    show em_f _ _ = 0
    rw [by_f, by_f]
    exact z
  refine br_t rfl (wk_get hu (fun l => br_t (by rw [k2]; rfl) ?_) (fun l => absurd l (by omega)))
  refine wk_local hu ha (br_t (by rw [k3]; rfl) (wk_local hu hb (br_t (by rw [k4]; rfl) (wk_answer hu hth (br_t (by rw [k5]; rfl) (wk_lastNumber hu ha (br_t (by rw [k3]; rfl) (wk_lastNumber hu hth (br_t (by rw [k5]; rfl) (wk_same hu ha hb (fun _ => br_t rfl (wk_same hu ha hth (fun z => absurd z (by omega)) (fun _ => br_t rfl ?_))) (fun z => absurd (k3.trans k4.symm) z)))))))))))
  exact ⟨6, la_336 hu ha hb hab hth hta htb he he2 hf hf2 h0 hp 5 0 rfl⟩
theorem la_173 {M S : Nat} {f1 f2 f3 f4 : Int32} {a1 a2 a3 a4 a5 a6 a7 a8 a9 a10 a11 a12 a13 a14 a15 a16 a17 : Nat → Int32} {a b e f th mc ms kc ks : Nat} {x9 : Int32} {post : Int32 → St0 → Prop} (h : ra_R P M S (f1, f2, f3, f4, a1, a2, a3, a4, a5, a6, a7, a8, a9, a10, a11, a12, a13, a14, a15, a16, a17)) (ha : a < 5) (hb : b < 5) (hab : a ≠ b) (he : (P.2.2.1 >>> ((10 : Int32) &&& 31)) &&& 1 = nI e) (he2 : e < 2) (hf : P.2.2.2 &&& 1 = nI f) (hf2 : f < 2)
    (h0 : em_r1 S a b e th ≠ 0) (h9 : a ≠ 0 → b ≠ 0 → nI th = x9) (hp : post 1 ()) : wL_lawOf_173 post mc ms P.2.2.1 P.2.2.2 (nI P.1) (nI P.2.1) (nI a) (nI b) x9 (nI th) kc ks f1 f2 f3 f4 a1 a2 a3 a4 a5 a6 a7 a8 a9 a10 a11 a12 a13 a14 a15 a16 a17 := by
  obtain ⟨k1, _⟩ := by_k h0
  obtain ⟨k1, k2⟩ := by_a.mp k1
  obtain ⟨k2, k3⟩ := by_a.mp k2
  obtain ⟨k3, k4⟩ := by_a.mp k3
  have k1 : em_le S < 5 := by_le.mp k1
  have k2 : th < 5 := by_le.mp k2
  have k3 : th ≠ a := by_bef.mp (by_n.mp k3)
  have k4 : th ≠ b := by_bef.mp (by_n.mp k4)
  have K := la_215 (mc := mc) (ms := ms) (kc := kc) (ks := ks) h ha hb hab k2 k3 k4 he he2 hf hf2 h0 hp
  unfold wL_lawOf_173
  exact pk_eq th a (fun z => absurd z k3) (fun _ => pk_eq th b (fun z => absurd z k4) (fun _ => wk_leader h (fun l => br_f (nI_pos (by omega)) (pk_eq a 0 (fun _ => K) (fun q1 => pk_eq b 0 (fun _ => K) (fun q2 => br_t (h9 q1 q2) K)))) (fun l => absurd l (by omega))))
theorem la_106 {M S : Nat} {f1 f2 f3 f4 : Int32} {a1 a2 a3 a4 a5 a6 a7 a8 a9 a10 a11 a12 a13 a14 a15 a16 a17 : Nat → Int32} {a b e f mc ms kc ks : Nat} {z0 : Int32} {post : Int32 → St0 → Prop} (h : ra_R P M S (f1, f2, f3, f4, a1, a2, a3, a4, a5, a6, a7, a8, a9, a10, a11, a12, a13, a14, a15, a16, a17)) (ha : a < 5) (hb : b < 5) (hab : a ≠ b) (he : (P.2.2.1 >>> ((10 : Int32) &&& 31)) &&& 1 = nI e) (he2 : e < 2) (hf : P.2.2.2 &&& 1 = nI f) (hf2 : f < 2)
    (h1 : em_su S 1 ≠ 0) (h2 : em_g (em_su S 1) (7 + a) = 0) (h3 : em_mv (em_su S 1) a 1 ≠ 0) (h0 : em_r0 (em_mv (em_su S 1) a 1) a b e ≠ 0) (hz : a ≠ 0 → b ≠ 0 → z0 = 0) (hp : post 1 ()) :
    wL_lawOf_106 post mc ms P.2.2.1 P.2.2.2 (nI P.1) (nI P.2.1) (nI a) (nI b) z0 kc ks f1 f2 f3 f4 a1 a2 a3 a4 a5 a6 a7 a8 a9 a10 a11 a12 a13 a14 a15 a16 a17 := by
  have g2 : (1 : Int32) + ((P.2.2.1 >>> ((10 : Int32) &&& 31)) &&& 1) = nI (e + 1) := by
    rw [he, show (1 : Int32) = nI 1 from rfl, nI_add, Nat.add_comm]
  unfold wL_lawOf_106
  rw [g2]
  refine la_c0 rfl rfl (la_sub1 h h1 (fun M' u' hu => ?_))
  obtain ⟨f1, f2, f3, f4, a1, a2, a3, a4, a5, a6, a7, a8, a9, a10, a11, a12, a13, a14, a15, a16, a17⟩ := u'
  dsimp only
  generalize em_su S 1 = S1 at *
  refine br_t rfl (wk_move (g := 1) hu ha (by decide) h3 (fun M' u' hu => ?_))
  obtain ⟨f1, f2, f3, f4, a1, a2, a3, a4, a5, a6, a7, a8, a9, a10, a11, a12, a13, a14, a15, a16, a17⟩ := u'
  dsimp only
  generalize em_mv S1 a 1 = S2 at *
  obtain ⟨k1, h0⟩ := by_k h0
  have k1 : em_g S2 (7 + b) = 0 := by_be.mp k1
  obtain ⟨b1, h0, _⟩ := by_b h0
  refine br_t (by rw [h2]; rfl) (wk_move (g := e + 1) hu hb (by omega) b1 (fun M' u' hu => ?_))
  obtain ⟨f1, f2, f3, f4, a1, a2, a3, a4, a5, a6, a7, a8, a9, a10, a11, a12, a13, a14, a15, a16, a17⟩ := u'
  dsimp only
  have h0 : em_r1 (em_mv S2 b (e + 1)) a b e (em_c (em_o (Nat.beq a 0) (Nat.beq b 0)) (em_le (em_mv S2 b (e + 1))) 0) ≠ 0 := by
    intro z
    apply h0
    show em_f _ _ = 0
    rw [by_f]
    exact z
  generalize em_mv S2 b (e + 1) = S3 at *
  have K : (a = 0 ∨ b = 0) → wL_lawOf_165 post mc ms P.2.2.1 P.2.2.2 (nI P.1) (nI P.2.1) (nI a) (nI b) z0 kc ks f1 f2 f3 f4 a1 a2 a3 a4 a5 a6 a7 a8 a9 a10 a11 a12 a13 a14 a15 a16 a17 := by
    intro q
    have q' : em_o (Nat.beq a 0) (Nat.beq b 0) = true := by_o.mpr (q.elim (fun z => Or.inl (by_be.mpr z)) (fun z => Or.inr (by_be.mpr z)))
    rw [by_ct q'] at h0
    unfold wL_lawOf_165
    refine wk_leader hu (fun l => la_173 hu ha hb hab he he2 hf hf2 h0 (fun z1 z2 => absurd q (by omega)) hp) (fun l => ?_)
    exfalso
    obtain ⟨k1, _⟩ := by_k h0
    have k2 : em_le S3 < 5 := by_le.mp (by_a.mp k1).1
    omega
  refine br_t (by rw [k1]; rfl) (pk_eq a 0 (fun q => K (Or.inl q)) (fun q1 => pk_eq b 0 (fun q => K (Or.inr q)) (fun q2 => ?_)))
  have q' : em_o (Nat.beq a 0) (Nat.beq b 0) = false := by_of.mpr ⟨by_bef.mpr q1, by_bef.mpr q2⟩
  rw [by_cf q'] at h0
  exact la_173 (th := 0) hu ha hb hab he he2 hf hf2 h0 (fun z1 z2 => (hz z1 z2).symm) hp
theorem la_56 {M S : Nat} {f1 f2 f3 f4 : Int32} {a1 a2 a3 a4 a5 a6 a7 a8 a9 a10 a11 a12 a13 a14 a15 a16 a17 : Nat → Int32} {a b e f mc ms kc ks : Nat} {post : Int32 → St0 → Prop} (h : ra_R P M S (f1, f2, f3, f4, a1, a2, a3, a4, a5, a6, a7, a8, a9, a10, a11, a12, a13, a14, a15, a16, a17)) (ha : a < 5) (hb : b < 5) (hab : a ≠ b) (he : (P.2.2.1 >>> ((10 : Int32) &&& 31)) &&& 1 = nI e) (he2 : e < 2) (hf : P.2.2.2 &&& 1 = nI f) (hf2 : f < 2)
    (h1 : em_su S 1 ≠ 0) (h2 : em_g (em_su S 1) (7 + a) = 0) (h3 : em_mv (em_su S 1) a 1 ≠ 0) (h0 : em_r0 (em_mv (em_su S 1) a 1) a b e ≠ 0) (hp : post 1 ()) :
    ∀ k, k ≤ 5 → ∀ x8 : Int32, wL_lawOf_56 post mc ms P.2.2.1 P.2.2.2 (nI P.1) (nI P.2.1) (nI a) (nI b) kc ks f1 f2 f3 f4 a1 a2 a3 a4 a5 a6 a7 a8 a9 a10 a11 a12 a13 a14 a15 a16 a17 (k + 1) x8 (nI k - 1) := by
  intro k
  induction k with
  | zero =>
    intro _ x8
    have K : (a = 0 ∨ b = 0) → wL_lawOf_100 post mc ms P.2.2.1 P.2.2.2 (nI P.1) (nI P.2.1) (nI a) (nI b) x8 kc ks f1 f2 f3 f4 a1 a2 a3 a4 a5 a6 a7 a8 a9 a10 a11 a12 a13 a14 a15 a16 a17 := by
      intro q
      unfold wL_lawOf_100
      exact la_106 h ha hb hab he he2 hf hf2 h1 h2 h3 h0 (fun z1 z2 => absurd q (by omega)) hp
    exact br_t (by decide) (pk_eq a 0 (fun q => K (Or.inl q)) (fun q1 => pk_eq b 0 (fun q => K (Or.inr q)) (fun q2 => la_106 h ha hb hab he he2 hf hf2 h1 h2 h3 h0 (fun _ _ => rfl) hp)))
  | succ k ih =>
    intro hk x8
    have t := ih (by omega)
    have e1 : nI k + (-1) = nI k - 1 := by grind
    rw [nI_pred]
    refine br_f (nI_pos (by omega)) (pk_eq k a (fun _ => nm_r e1 (t x8)) (fun _ => pk_eq k b (fun _ => nm_r e1 (t x8)) (fun _ => nm_r e1 (t (nI k)))))
theorem la_run : ∀ a, a < 5 → em_run a ≠ 0 := by
  intro a ha
  match a, ha with
  | 0, _ => rw [em_run0]; decide
  | 1, _ => rw [em_run1]; decide
  | 2, _ => rw [em_run2]; decide
  | 3, _ => rw [em_run3]; decide
  | 4, _ => rw [em_run4]; decide
theorem la_cf {S a b d e : Nat} (h : em_cf S a d ≠ 0) (hb : b = (a + 1 + d) % 5) (he : e < 2) : em_r0 S a b e ≠ 0 := by
  have E : em_cf S a d = em_b (em_r0 S a ((a + 1 + d) % 5) 0) (fun _ => em_r0 S a ((a + 1 + d) % 5) 1) := by
    show em_f _ _ = _
    rw [by_f]
    rfl
  rw [E, ← hb] at h
  obtain ⟨c1, c2, _⟩ := by_b h
  have : e = 0 ∨ e = 1 := by omega
  rcases this with q | q
  · rw [q]; exact c1
  · rw [q]; exact c2
theorem la_facts {a b d e : Nat} (ha : a < 5) (hd : d < 4) (hb : b = (a + 1 + d) % 5) (he : e < 2) :
    em_sx em_s0 ≠ 0 ∧ em_su (em_sx em_s0) 1 ≠ 0 ∧ em_g (em_su (em_sx em_s0) 1) (7 + a) = 0 ∧ em_mv (em_su (em_sx em_s0) 1) a 1 ≠ 0 ∧ em_r0 (em_mv (em_su (em_sx em_s0) 1) a 1) a b e ≠ 0 := by
  have h := la_run a ha
  unfold em_run at h
  obtain ⟨g1, g2, _⟩ := by_b h
  unfold em_t1 at g1 g2
  obtain ⟨g3, g4, g5⟩ := by_b g1
  rw [g5] at g2
  obtain ⟨k1, g2⟩ := by_k g2
  have k1 : em_g (em_su (em_sx em_s0) 1) (7 + a) = 0 := by_be.mp k1
  obtain ⟨b1, g2, _⟩ := by_b g2
  refine ⟨g3, g4, k1, b1, ?_⟩
  generalize em_mv (em_su (em_sx em_s0) 1) a 1 = S at *
  obtain ⟨c0, g2, _⟩ := by_b g2
  obtain ⟨c1, g2, _⟩ := by_b g2
  obtain ⟨c2, c3, _⟩ := by_b g2
  have : d = 0 ∨ d = 1 ∨ d = 2 ∨ d = 3 := by omega
  rcases this with q | q | q | q
  · subst q; exact la_cf c0 hb he
  · subst q; exact la_cf c1 hb he
  · subst q; exact la_cf c2 hb he
  · subst q; exact la_cf c3 hb he
theorem la_lawOf (p0 p1 p2 : Int32) {post : Int32 → St0 → Prop} (hp : post 1 ()) : wpL_lawOf post 18 1871 () p0 p1 p2 := by
  obtain ⟨na, hna, ena⟩ := pk_andE p0 (m := 255) 8 (by decide)
  obtain ⟨nn, hnn, enn⟩ := pk_andE p2 (m := 255) 8 (by decide)
  obtain ⟨d, hd, ed⟩ := pk_andE (p0 >>> ((8 : Int32) &&& 31)) (m := 3) 2 (by decide)
  obtain ⟨s, hs, es⟩ := pk_andE (p2 >>> ((8 : Int32) &&& 31)) (m := 3) 2 (by decide)
  obtain ⟨e, he, ee⟩ := pk_andE (p0 >>> ((10 : Int32) &&& 31)) (m := 1) 1 (by decide)
  obtain ⟨f, hf, ef⟩ := pk_andE p1 (m := 1) 1 (by decide)
  have q1 := la_facts (a := na % 5) (b := (na % 5 + 1 + d) % 5) (d := d) (e := e) (by omega) (by omega) rfl (by omega)
  obtain ⟨q0, q1, q2, q3, q4⟩ := q1
  generalize hT : em_sx em_s0 = T at *
  unfold wpL_lawOf
  rw [ena, enn, ed, es]
  refine ⟨by decide, by decide, 17, 1850, by decide, by decide, wk_init (P := (nn % 6, s, p0, p1)) ⟨by show nn % 6 < 6; omega, by show s < 4; omega⟩ (by rw [hT]; exact q0) (fun M' u' hu => ?_)⟩
  rw [hT] at hu
  obtain ⟨f1, f2, f3, f4, a1, a2, a3, a4, a5, a6, a7, a8, a9, a10, a11, a12, a13, a14, a15, a16, a17⟩ := u'
  dsimp only
  refine ⟨by decide, nm_r (e' := nI (nn % 6)) ?_ (nm_e ⟨by decide, nm_r (e' := nI (na % 5)) ?_ ⟨by decide, nm_r (e' := nI ((na % 5 + 1 + d) % 5)) ?_ ⟨6, ?_⟩⟩⟩)⟩
  · rw [show (6 : Int32) = nI 6 from rfl, pk_rem (by omega) (by omega) (by omega)]
  · rw [wk_5, pk_rem (by omega) (by omega) (by omega)]
  · rw [wk_5, nI_1, nI_add, pk_rem (by omega) (by omega) (by omega)]
  · exact la_56 (P := (nn % 6, s, p0, p1)) hu (by omega) (by omega) (by omega) ee (by omega) ef (by omega) q1 q2 q3 q4 hp 5 (by omega) 0
end
theorem la_cell {post : Int32 → Prop} {L : Nat} {xs : Nat → Int32} {i : Nat} (hL : L ≤ 3) (hi : i < 3) (hp : ∀ r, post r) : wpL_cellAt post L xs () (nI i) := by
  refine pk_le L i (fun _ => hp _) (fun z => ⟨vp_in_nI z (by omega), hp _⟩)
theorem i_vc (xs : Nat → Int32) (L : Nat) (hL : L ≤ 3) : wpL_law (fun r => r = 1) L xs := by
  unfold wpL_law
  exact la_cell (i := 0) hL (by decide) (fun r1 => la_cell (i := 1) hL (by decide) (fun r2 => la_cell (i := 2) hL (by decide) (fun r3 => ⟨18, 1871, by decide, by decide, la_lawOf r1 r2 r3 rfl⟩)))
end
