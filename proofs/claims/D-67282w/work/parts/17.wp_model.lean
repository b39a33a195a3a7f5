/-! the wp-predicates of PromiseDeskModel (printed by gen/wp.py) -/
def w2_thrown (V : Mv) (Q : Int → Mv → Prop) : Prop :=
  Q (V 0 0) V
def w2_fails (a1 : Int) (V : Mv) (Q : Int → Mv → Prop) : Prop :=
  xF V 0 a1 fun V1 => Q 0 V1
def w2_isObject_J29 (b0 : Int) (V : Mv) (Q : Int → Mv → Prop) : Prop :=
  xR b0 (Q b0 V)
def w2_isObject_J28 (V : Mv) (Q : Int → Mv → Prop) : Prop :=
  w2_isObject_J29 0 V Q
def w2_isObject (a1 : Int) (V : Mv) (Q : Int → Mv → Prop) : Prop :=
  xI ((-2) < a1) (w2_isObject_J28  V Q) (xA ((-2) - a1) fun _ => xI (((-2) - a1) < V 1 0) (xA ((-2) - a1) fun _ => xI (((-2) - a1) < 0) (w2_isObject_J28  V Q) (w2_isObject_J29 1 V Q)) (w2_isObject_J28  V Q))
def w2_isValue_J25 (b0 : Int) (V : Mv) (Q : Int → Mv → Prop) : Prop :=
  xR b0 (Q b0 V)
def w2_isValue_J20 (V : Mv) (Q : Int → Mv → Prop) : Prop :=
  w2_isValue_J25 1 V Q
def w2_isValue_J12 (a1 : Int) (V : Mv) (Q : Int → Mv → Prop) : Prop :=
  w2_isObject a1 V (fun x1 V3 =>  xI (x1 = 0) (w2_isValue_J25 0 V3 Q) (w2_isValue_J20  V3 Q) )
def w2_isValue (a1 : Int) (V : Mv) (Q : Int → Mv → Prop) : Prop :=
  xI (a1 < (-1)) (w2_isValue_J12 a1 V Q) (xI (a1 < 1000) (w2_isValue_J20  V Q) (w2_isValue_J12 a1 V Q))
def w2_isKind_J26 (b0 : Int) (V : Mv) (Q : Int → Mv → Prop) : Prop :=
  xR b0 (Q b0 V)
def w2_isKind_J25 (V : Mv) (Q : Int → Mv → Prop) : Prop :=
  w2_isKind_J26 0 V Q
def w2_isKind (a1 : Int) (a2 : Int) (V : Mv) (Q : Int → Mv → Prop) : Prop :=
  w2_isObject a1 V (fun x1 V3 =>  xI (x1 = 0) (w2_isKind_J25  V3 Q) (xA ((-2) - a1) fun _ => xL V3 ZM 2 ((-2) - a1) fun _ => xI ((V3 2 ((-2) - a1)) = a2) (w2_isKind_J26 1 V3 Q) (w2_isKind_J25  V3 Q)) )
def w2_isHandler_J17 (b0 : Int) (V : Mv) (Q : Int → Mv → Prop) : Prop :=
  xR b0 (Q b0 V)
def w2_isHandler_J16 (V : Mv) (Q : Int → Mv → Prop) : Prop :=
  w2_isHandler_J17 0 V Q
def w2_isHandler (a1 : Int) (V : Mv) (Q : Int → Mv → Prop) : Prop :=
  xI (a1 < 0) (w2_isHandler_J16  V Q) (xI (a1 < V 33 0) (w2_isHandler_J17 1 V Q) (w2_isHandler_J16  V Q))
def w2_isFull_J17 (b0 : Int) (V : Mv) (Q : Int → Mv → Prop) : Prop :=
  xR b0 (Q b0 V)
def w2_isFull (a1 : Int) (V : Mv) (Q : Int → Mv → Prop) : Prop :=
  xA (3000 - V 1 0) fun _ => xI ((3000 - V 1 0) < a1) (w2_isFull_J17 1 V Q) (w2_isFull_J17 0 V Q)
def w2_newObject (a1 : Int) (V : Mv) (Q : Int → Mv → Prop) : Prop :=
  xA (V 1 0 + 1) fun _ => xF V 1 (V 1 0 + 1) fun V2 => xS V2 ZM 2 (V 1 0) a1 fun V4 => xS V4 ZM 3 (V 1 0) 0 fun V6 => xS V6 ZM 4 (V 1 0) (-1) fun V8 => xS V8 ZM 5 (V 1 0) (-1) fun V10 => xS V10 ZM 6 (V 1 0) (-1) fun V12 => Q (V 1 0) V12
def w2_record (a1 : Int) (V : Mv) (Q : Int → Mv → Prop) : Prop :=
  xA (V 15 0 + 1) fun _ => xF V 15 (V 15 0 + 1) fun V2 => xS V2 ZM 13 (V 15 0) a1 fun V4 => xB V4 ZM 14 (V 15 0) 0 fun V6 => Q (V 15 0) V6
def w2_capability (V : Mv) (Q : Int → Mv → Prop) : Prop :=
  w2_newObject 0 V (fun x1 V3 =>  w2_record x1 V3 (fun x7 V9 =>  Q x7 V9 ) )
def w2_react_J86 (a1 : Int) (a3 : Int) (b1 : Int) (b2 : Int) (V : Mv) (Q : Int → Mv → Prop) : Prop :=
  xS V ZM 24 b1 b2 fun V1 => xL V1 ZM 17 a1 fun _ => xS V1 ZM 25 (V1 30 0) (V1 17 a1) fun V3 => xS V3 ZM 26 (V3 30 0) a3 fun V5 => xA (V5 30 0 + 1) fun _ => xF V5 30 (V5 30 0 + 1) fun V8 => Q 0 V8
def w2_react_J57 (a1 : Int) (a2 : Int) (a3 : Int) (b1 : Int) (b2 : Int) (V : Mv) (Q : Int → Mv → Prop) : Prop :=
  xS V ZM 23 b1 b2 fun V10 => xI (a2 = 2) (xL V10 ZM 21 a1 fun _ => w2_react_J86 a1 a3 (V10 30 0) (V10 21 a1) V10 Q) (xL V10 ZM 19 a1 fun _ => w2_react_J86 a1 a3 (V10 30 0) (V10 19 a1) V10 Q)
def w2_react_J28 (a1 : Int) (a2 : Int) (a3 : Int) (b1 : Int) (b2 : Int) (V : Mv) (Q : Int → Mv → Prop) : Prop :=
  xB V ZM 27 b1 b2 fun V12 => xI (a2 = 2) (xL V12 ZM 20 a1 fun _ => w2_react_J57 a1 a2 a3 (V12 30 0) (V12 20 a1) V12 Q) (xL V12 ZM 18 a1 fun _ => w2_react_J57 a1 a2 a3 (V12 30 0) (V12 18 a1) V12 Q)
def w2_react (a1 : Int) (a2 : Int) (a3 : Int) (V : Mv) (Q : Int → Mv → Prop) : Prop :=
  xB V ZM 28 (V 30 0) 0 fun V14 => xI (a2 = 2) (w2_react_J28 a1 a2 a3 (V14 30 0) 1 V14 Q) (w2_react_J28 a1 a2 a3 (V14 30 0) 0 V14 Q)
def w2_settle_2_L22 (Q : Int → Mv → Prop) : Nat → Int → Int → Int → Int → Mv → Prop
  | 0, _, _, _, _, _ => False
  | n + 1, a1, a2, a3, a4, V => xI (a4 < 0) (xS V ZM 5 a1 (-1) fun V1 => Q 0 V1) (w2_react a4 a2 a3 V (fun _ V5 =>  xL V5 ZM 16 a4 fun _ => w2_settle_2_L22 Q n a1 a2 a3 (V5 16 a4) V5 ))
def w2_settle_2 (a1 : Int) (a2 : Int) (a3 : Int) (V : Mv) (Q : Int → Mv → Prop) : Prop :=
  xS V ZM 3 a1 a2 fun V9 => xS V9 ZM 4 a1 a3 fun V11 => xL V11 ZM 5 a1 fun _ => ∃ n, w2_settle_2_L22 Q n a1 a2 a3 (V11 5 a1) V11
def w2_resolve_J189 (V : Mv) (Q : Int → Mv → Prop) : Prop :=
  Q 0 V
def w2_resolve_J138 (a3 : Int) (a4 : Int) (V : Mv) (Q : Int → Mv → Prop) : Prop :=
  xB V ZM 28 (V 30 0) 1 fun V1 => xS V1 ZM 24 (V1 30 0) a4 fun V3 => xS V3 ZM 25 (V3 30 0) a3 fun V5 => xA (V5 30 0 + 1) fun _ => xF V5 30 (V5 30 0 + 1) fun V8 => w2_resolve_J189  V8 Q
def w2_resolve_J182 (a2 : Int) (a3 : Int) (V : Mv) (Q : Int → Mv → Prop) : Prop :=
  w2_settle_2 a3 1 a2 V (fun _ V12 =>  w2_resolve_J189  V12 Q )
def w2_resolve_J107 (a2 : Int) (a3 : Int) (a4 : Int) (V : Mv) (Q : Int → Mv → Prop) : Prop :=
  xL V ZM 2 a4 fun _ => xI (V 2 a4 = 0) (w2_resolve_J138 a3 a4 V Q) (xL V ZM 2 a4 fun _ => xI (V 2 a4 = 1) (xL V ZM 8 a4 fun _ => xI (V 8 a4 = 0) (w2_resolve_J138 a3 a4 V Q) (w2_resolve_J182 a2 a3 V Q)) (w2_resolve_J182 a2 a3 V Q))
def w2_resolve (a1 : Int) (a2 : Int) (V : Mv) (Q : Int → Mv → Prop) : Prop :=
  xL V ZM 14 a1 fun _ => xI (V 14 a1 = 0) (xB V ZM 14 a1 1 fun V16 => xL V16 ZM 13 a1 fun _ => xA (-2 - V16 13 a1) fun _ => xI (a2 = (-2 - V16 13 a1)) (w2_newObject 2 V16 (fun x38 V40 =>  xA (-2 - x38) fun _ => w2_settle_2 (V16 13 a1) 2 (-2 - x38) V40 (fun _ V47 =>  Q 0 V47 ) )) (w2_isObject a2 V16 (fun x19 V21 =>  xI (x19 = 0) (w2_settle_2 (V16 13 a1) 1 a2 V21 (fun _ V34 =>  Q 0 V34 )) (xA ((-2) - a2) fun _ => xL V21 ZM 2 ((-2) - a2) fun _ => xI ((V21 2 ((-2) - a2)) = 1) (xL V21 ZM 8 ((-2) - a2) fun _ => xI ((V21 8 ((-2) - a2)) = 1) (xL V21 ZM 10 ((-2) - a2) fun _ => w2_settle_2 (V16 13 a1) 2 (V21 10 ((-2) - a2)) V21 (fun _ V28 =>  w2_resolve_J189  V28 Q )) (w2_resolve_J107 a2 (V16 13 a1) ((-2) - a2) V21 Q)) (w2_resolve_J107 a2 (V16 13 a1) ((-2) - a2) V21 Q)) ))) (Q 0 V)
def w2_reject (a1 : Int) (a2 : Int) (V : Mv) (Q : Int → Mv → Prop) : Prop :=
  xL V ZM 14 a1 fun _ => xI (V 14 a1 = 0) (xB V ZM 14 a1 1 fun V1 => xL V1 ZM 13 a1 fun _ => w2_settle_2 (V1 13 a1) 2 a2 V1 (fun _ V5 =>  Q 0 V5 )) (Q 0 V)
def w2_performThen_J156 (a1 : Int) (V : Mv) (Q : Int → Mv → Prop) : Prop :=
  xB V ZM 7 a1 1 fun V1 => Q 0 V1
def w2_performThen_L125 (Q : Int → Mv → Prop) : Nat → Int → Int → Int → Mv → Prop
  | 0, _, _, _, _ => False
  | n + 1, a1, a7, a8, V => xL V ZM 16 a8 fun _ => xI (V 16 a8 < 0) (xS V ZM 16 a8 a7 fun V3 => w2_performThen_J156 a1 V3 Q) (xL V ZM 16 a8 fun _ => w2_performThen_L125 Q n a1 a7 (V 16 a8) V)
def w2_performThen (a1 : Int) (a2 : Int) (a3 : Int) (a4 : Int) (a5 : Int) (a6 : Int) (V : Mv) (Q : Int → Mv → Prop) : Prop :=
  xA (V 22 0 + 1) fun _ => xF V 22 (V 22 0 + 1) fun V6 => xS V6 ZM 16 (V 22 0) (-1) fun V8 => xS V8 ZM 17 (V 22 0) a6 fun V10 => xS V10 ZM 18 (V 22 0) a2 fun V12 => xS V12 ZM 19 (V 22 0) a3 fun V14 => xS V14 ZM 20 (V 22 0) a4 fun V16 => xS V16 ZM 21 (V 22 0) a5 fun V18 => xL V18 ZM 3 a1 fun _ => xI (V18 3 a1 = 0) (xL V18 ZM 5 a1 fun _ => xI (V18 5 a1 < 0) (xS V18 ZM 5 a1 (V 22 0) fun V20 => w2_performThen_J156 a1 V20 Q) (xL V18 ZM 5 a1 fun _ => ∃ n, w2_performThen_L125 Q n a1 (V 22 0) (V18 5 a1) V18)) (xL V18 ZM 3 a1 fun _ => xL V18 ZM 4 a1 fun _ => w2_react (V 22 0) (V18 3 a1) (V18 4 a1) V18 (fun _ V24 =>  w2_performThen_J156 a1 V24 Q ))
def w2_then_2 (a1 : Int) (a2 : Int) (a3 : Int) (a4 : Int) (a5 : Int) (V : Mv) (Q : Int → Mv → Prop) : Prop :=
  w2_capability  V (fun x1 V3 =>  w2_performThen a1 a2 a3 a4 a5 x1 V3 (fun _ V9 =>  xL V9 ZM 13 x1 fun _ => Q (V9 13 x1) V9 ) )
def w2_promiseOf (a1 : Int) (V : Mv) (Q : Int → Mv → Prop) : Prop :=
  w2_isKind a1 0 V (fun x1 V3 =>  xI (x1 = 0) (w2_capability  V3 (fun x7 V9 =>  w2_resolve x7 a1 V9 (fun _ V15 =>  xL V15 ZM 13 x7 fun _ => Q (V15 13 x7) V15 ) )) (xA ((-2) - a1) fun _ => Q ((-2) - a1) V3) )
def w2_note (a1 : Int) (a2 : Int) (V : Mv) (Q : Int → Mv → Prop) : Prop :=
  xS V ZM 34 (V 36 0) a1 fun V1 => xS V1 ZM 35 (V1 36 0) a2 fun V3 => xA (V3 36 0 + 1) fun _ => xF V3 36 (V3 36 0 + 1) fun V6 => Q 0 V6
def w2_handle_J72 (a1 : Int) (V : Mv) (Q : Int → Mv → Prop) : Prop :=
  xL V ZM 32 a1 fun _ => Q (V 32 a1) V
def w2_handle_J79 (a2 : Int) (V : Mv) (Q : Int → Mv → Prop) : Prop :=
  Q a2 V
def w2_handle_J121 (V : Mv) (Q : Int → Mv → Prop) : Prop :=
  xZ V 51 0 fun V1 => Q (-1) V1
def w2_handle_J32 (a1 : Int) (a2 : Int) (b1 : Int) (V : Mv) (Q : Int → Mv → Prop) : Prop :=
  xZ V 51 b1 fun V3 => xL V3 ZM 31 a1 fun _ => xI (V3 31 a1 = 0) (w2_handle_J72 a1 V3 Q) (xI (V3 31 a1 = 1) (w2_handle_J79 a2 V3 Q) (xI (V3 31 a1 = 2) (w2_handle_J72 a1 V3 Q) (xI (V3 31 a1 = 3) (w2_handle_J79 a2 V3 Q) (xL V3 ZM 32 a1 fun _ => xA ((-2) - V3 32 a1) fun _ => xL V3 ZM 6 ((-2) - V3 32 a1) fun _ => xL V3 ZM 31 a1 fun _ => xI (V3 31 a1 = 4) (w2_resolve (V3 6 ((-2) - V3 32 a1)) a2 V3 (fun _ V14 =>  w2_handle_J121  V14 Q )) (w2_reject (V3 6 ((-2) - V3 32 a1)) a2 V3 (fun _ V8 =>  w2_handle_J121  V8 Q ))))))
def w2_handle_J27 (a1 : Int) (a2 : Int) (V : Mv) (Q : Int → Mv → Prop) : Prop :=
  w2_handle_J32 a1 a2 1 V Q
def w2_handle (a1 : Int) (a2 : Int) (V : Mv) (Q : Int → Mv → Prop) : Prop :=
  w2_note a1 a2 V (fun _ V20 =>  xL V20 ZM 31 a1 fun _ => xI (V20 31 a1 = 2) (w2_handle_J27 a1 a2 V20 Q) (xL V20 ZM 31 a1 fun _ => xI (V20 31 a1 = 3) (w2_handle_J27 a1 a2 V20 Q) (w2_handle_J32 a1 a2 0 V20 Q)) )
def w2_array (a1 : Int) (a2 : Int) (V : Mv) (Q : Int → Mv → Prop) : Prop :=
  w2_newObject a2 V (fun x1 V3 =>  xL V3 ZM 43 a1 fun _ => xS V3 ZM 8 x1 (V3 43 a1) fun V7 => xL V7 ZM 44 a1 fun _ => xS V7 ZM 9 x1 (V7 44 a1) fun V9 => xA (-2 - x1) fun _ => Q (-2 - x1) V9 )
def w2_finish_J48 (V : Mv) (Q : Int → Mv → Prop) : Prop :=
  Q 0 V
def w2_finish (a1 : Int) (a2 : Int) (V : Mv) (Q : Int → Mv → Prop) : Prop :=
  xI (a2 = 0) (xL V ZM 46 a1 fun _ => w2_array a1 4 V (fun x1 V3 =>  w2_resolve (V 46 a1) x1 V3 (fun _ V9 =>  w2_finish_J48  V9 Q ) )) (w2_array a1 3 V (fun x13 V15 =>  w2_array a1 4 V15 (fun x19 V21 =>  xL V21 ZM 46 a1 fun _ => w2_reject (V21 46 a1) x13 V21 (fun _ V27 =>  w2_finish_J48  V27 Q ) ) ))
def w2_element_J124 (V : Mv) (Q : Int → Mv → Prop) : Prop :=
  Q 0 V
def w2_element_J121 (b1 : Int) (b2 : Int) (V : Mv) (Q : Int → Mv → Prop) : Prop :=
  w2_finish b1 b2 V (fun _ V3 =>  w2_element_J124  V3 Q )
def w2_element_J86 (a1 : Int) (a4 : Int) (V : Mv) (Q : Int → Mv → Prop) : Prop :=
  xL V ZM 45 a4 fun _ => xA (V 45 a4 - 1) fun _ => xS V ZM 45 a4 (V 45 a4 - 1) fun V8 => xL V8 ZM 45 a4 fun _ => xI (V8 45 a4 = 0) (xI (a1 = 7) (w2_element_J121 a4 1 V8 Q) (w2_element_J121 a4 0 V8 Q)) (w2_element_J124  V8 Q)
def w2_element_J66 (a1 : Int) (a2 : Int) (a3 : Int) (a4 : Int) (a5 : Int) (b1 : Int) (b2 : Int) (V : Mv) (Q : Int → Mv → Prop) : Prop :=
  xS V ZM 8 b1 b2 fun V10 => xS V10 ZM 9 a5 a3 fun V12 => xA (-2 - a5) fun _ => xS V12 ZM 39 a2 (-2 - a5) fun V15 => w2_element_J86 a1 a4 V15 Q
def w2_element_J43 (a1 : Int) (a2 : Int) (a3 : Int) (a4 : Int) (V : Mv) (Q : Int → Mv → Prop) : Prop :=
  w2_newObject 5 V (fun x17 V19 =>  xI (a1 = 5) (w2_element_J66 a1 a2 a3 a4 x17 x17 1 V19 Q) (w2_element_J66 a1 a2 a3 a4 x17 x17 0 V19 Q) )
def w2_element (a1 : Int) (a2 : Int) (a3 : Int) (V : Mv) (Q : Int → Mv → Prop) : Prop :=
  xL V ZM 41 a2 fun _ => xI (V 41 a2 = 0) (xB V ZM 41 a2 1 fun V23 => xL V23 ZM 40 a2 fun _ => xS V23 ZM 39 a2 a3 fun V25 => xI (a1 = 5) (w2_element_J43 a1 a2 a3 (V23 40 a2) V25 Q) (xI (a1 = 6) (w2_element_J43 a1 a2 a3 (V23 40 a2) V25 Q) (w2_element_J86 a1 (V23 40 a2) V25 Q))) (Q 0 V)
def w2_last_J66 (a6 : Int) (b1 : Int) (b2 : Int) (V : Mv) (Q : Int → Mv → Prop) : Prop :=
  w2_then_2 b1 b2 a6 0 0 V (fun x1 V3 =>  xA (-2 - x1) fun _ => xZ V3 51 0 fun V8 => Q (-2 - x1) V8 )
def w2_last (a1 : Int) (a2 : Int) (a3 : Int) (V : Mv) (Q : Int → Mv → Prop) : Prop :=
  w2_handle a2 (-1) V (fun x10 V12 =>  xI (V12 51 0 = 0) (w2_promiseOf x10 V12 (fun x16 V18 =>  xA (V18 42 0 + 1) fun _ => xF V18 42 (V18 42 0 + 1) fun V23 => xS V23 ZM 39 (V18 42 0) a3 fun V25 => xI (a1 = 8) (w2_last_J66 (V18 42 0) x16 10 V25 Q) (w2_last_J66 (V18 42 0) x16 11 V25 Q) )) (Q x10 V12) )
def w2_goOn (a1 : Int) (V : Mv) (Q : Int → Mv → Prop) : Prop :=
  xL V ZM 49 a1 fun _ => xL V ZM 44 a1 fun _ => xI (V 49 a1 = V 44 a1) (xL V ZM 46 a1 fun _ => xL V ZM 47 a1 fun _ => w2_resolve (V 46 a1) (V 47 a1) V (fun _ V19 =>  Q 0 V19 )) (xL V ZM 43 a1 fun _ => xL V ZM 49 a1 fun _ => xA (V 43 a1 + V 49 a1) fun _ => xL V ZM 39 (V 43 a1 + V 49 a1) fun _ => xL V ZM 49 a1 fun _ => xA (V 49 a1 + 1) fun _ => xS V ZM 49 a1 (V 49 a1 + 1) fun V3 => w2_promiseOf (V 39 (V 43 a1 + V 49 a1)) V3 (fun x5 V7 =>  w2_performThen x5 12 a1 13 a1 (-1) V7 (fun _ V13 =>  Q 0 V13 ) ))
def w2_resume_J45 (a1 : Int) (V : Mv) (Q : Int → Mv → Prop) : Prop :=
  w2_goOn a1 V (fun _ V3 =>  xZ V3 51 0 fun V7 => Q 0 V7 )
def w2_resume (a1 : Int) (a2 : Int) (V : Mv) (Q : Int → Mv → Prop) : Prop :=
  xL V ZM 48 a1 fun _ => xI (V 48 a1 < 0) (w2_resume_J45 a1 V Q) (xL V ZM 48 a1 fun _ => w2_handle (V 48 a1) a2 V (fun x9 V11 =>  xI (V11 51 0 = 0) (w2_resume_J45 a1 V11 Q) (xZ V11 51 0 fun V15 => xL V15 ZM 46 a1 fun _ => w2_reject (V15 46 a1) x9 V15 (fun _ V19 =>  Q 0 V19 )) ))
def w2_call_J91 (a1 : Int) (a2 : Int) (a3 : Int) (V : Mv) (Q : Int → Mv → Prop) : Prop :=
  w2_element a1 a2 a3 V (fun _ V3 =>  Q (-1) V3 )
def w2_call_J100 (a1 : Int) (a2 : Int) (a3 : Int) (V : Mv) (Q : Int → Mv → Prop) : Prop :=
  w2_last a1 a2 a3 V (fun x7 V9 =>  Q x7 V9 )
def w2_call (a1 : Int) (a2 : Int) (a3 : Int) (V : Mv) (Q : Int → Mv → Prop) : Prop :=
  xZ V 51 0 fun V13 => xI (a1 = 1) (w2_handle a2 a3 V13 (fun x15 V17 =>  Q x15 V17 )) (xI (a1 = 2) (w2_resolve a2 a3 V13 (fun _ V23 =>  Q (-1) V23 )) (xI (a1 = 3) (w2_reject a2 a3 V13 (fun _ V29 =>  Q (-1) V29 )) (xI (a1 = 4) (w2_call_J91 a1 a2 a3 V13 Q) (xI (a1 = 5) (w2_call_J91 a1 a2 a3 V13 Q) (xI (a1 = 6) (w2_call_J91 a1 a2 a3 V13 Q) (xI (a1 = 7) (w2_call_J91 a1 a2 a3 V13 Q) (xI (a1 = 8) (w2_call_J100 a1 a2 a3 V13 Q) (xI (a1 = 9) (w2_call_J100 a1 a2 a3 V13 Q) (xI (a1 = 10) (xL V13 ZM 39 a2 fun _ => Q (V13 39 a2) V13) (xI (a1 = 11) (xZ V13 51 1 fun V33 => xL V33 ZM 39 a2 fun _ => Q (V33 39 a2) V33) (xI (a1 = 12) (w2_resume a2 a3 V13 (fun _ V37 =>  Q (-1) V37 )) (xL V13 ZM 46 a2 fun _ => w2_reject (V13 46 a2) a3 V13 (fun _ V43 =>  Q (-1) V43 )))))))))))))
def w2_does_J68 (b0 : Int) (V : Mv) (Q : Int → Mv → Prop) : Prop :=
  xR b0 (Q b0 V)
def w2_does_J58 (a2 : Int) (V : Mv) (Q : Int → Mv → Prop) : Prop :=
  xI (a2 = 3) (w2_does_J68 1 V Q) (w2_does_J68 0 V Q)
def w2_does (a1 : Int) (a2 : Int) (a3 : Int) (a4 : Int) (V : Mv) (Q : Int → Mv → Prop) : Prop :=
  xI (a2 = 1) (w2_resolve a4 a3 V (fun _ V17 =>  w2_does_J58 a2 V17 Q )) (xI (a2 = 2) (w2_reject a4 a3 V (fun _ V11 =>  w2_does_J58 a2 V11 Q )) (xI (a2 = 3) (w2_reject a4 a3 V (fun _ V5 =>  w2_does_J58 a2 V5 Q )) (xI (a2 = 4) (xS V ZM 6 a1 a4 fun V1 => w2_does_J58 a2 V1 Q) (w2_does_J58 a2 V Q))))
def w2_thenJob_J75 (V : Mv) (Q : Int → Mv → Prop) : Prop :=
  Q 0 V
def w2_thenJob (a1 : Int) (a2 : Int) (V : Mv) (Q : Int → Mv → Prop) : Prop :=
  w2_record a2 V (fun x1 V3 =>  xL V3 ZM 2 a1 fun _ => xI (V3 2 a1 = 0) (w2_then_2 a1 2 x1 3 x1 V3 (fun x26 V28 =>  Q 0 V28 )) (xA (-2 - a1) fun _ => w2_note (-2 - a1) (-1) V3 (fun _ V10 =>  xL V10 ZM 9 a1 fun _ => xL V10 ZM 10 a1 fun _ => w2_does a1 (V10 9 a1) (V10 10 a1) x1 V10 (fun x14 V16 =>  xI (x14 = 0) (xL V16 ZM 11 a1 fun _ => xL V16 ZM 12 a1 fun _ => w2_does a1 (V16 11 a1) (V16 12 a1) x1 V16 (fun x20 V22 =>  w2_thenJob_J75  V22 Q )) (w2_thenJob_J75  V16 Q) ) )) )
def w2_job_J127 (V : Mv) (Q : Int → Mv → Prop) : Prop :=
  Q 0 V
def w2_job_J85 (a1 : Int) (a2 : Int) (V : Mv) (Q : Int → Mv → Prop) : Prop :=
  xL V ZM 25 a1 fun _ => xI (V 25 a1 < 0) (Q 0 V) (xI (V 51 0 = 0) (xL V ZM 25 a1 fun _ => w2_resolve (V 25 a1) a2 V (fun _ V3 =>  w2_job_J127  V3 Q )) (xL V ZM 25 a1 fun _ => w2_reject (V 25 a1) a2 V (fun _ V9 =>  w2_job_J127  V9 Q )))
def w2_job (V : Mv) (Q : Int → Mv → Prop) : Prop :=
  xA (V 29 0 + 1) fun _ => xF V 29 (V 29 0 + 1) fun V14 => xL V14 ZM 28 (V 29 0) fun _ => xI ((V14 28 (V 29 0)) = 0) (xL V14 ZM 27 (V 29 0) fun _ => xZ V14 51 (V14 27 (V 29 0)) fun V16 => xL V16 ZM 26 (V 29 0) fun _ => xL V16 ZM 23 (V 29 0) fun _ => xI ((V16 23 (V 29 0)) = 0) (w2_job_J85 (V 29 0) (V16 26 (V 29 0)) V16 Q) (xL V16 ZM 23 (V 29 0) fun _ => xL V16 ZM 24 (V 29 0) fun _ => w2_call (V16 23 (V 29 0)) (V16 24 (V 29 0)) (V16 26 (V 29 0)) V16 (fun x18 V20 =>  w2_job_J85 (V 29 0) x18 V20 Q ))) (xL V14 ZM 24 (V 29 0) fun _ => xL V14 ZM 25 (V 29 0) fun _ => w2_thenJob (V14 24 (V 29 0)) (V14 25 (V 29 0)) V14 (fun _ V26 =>  Q 0 V26 ))
def w2_group_L37 (Q : Int → Mv → Prop) : Nat → Int → Int → Mv → Prop
  | 0, _, _, _ => False
  | n + 1, a1, a2, V => xI (a2 < V 38 0) (xL V ZM 37 a2 fun _ => xS V ZM 39 (V 42 0) (V 37 a2) fun V3 => xS V3 ZM 40 (V3 42 0) a1 fun V5 => xB V5 ZM 41 (V5 42 0) 0 fun V7 => xA (V7 42 0 + 1) fun _ => xF V7 42 (V7 42 0 + 1) fun V10 => xA (a2 + 1) fun _ =>  w2_group_L37 Q n a1 (a2 + 1) V10) (xF V 38 0 fun V1 => Q a1 V1)
def w2_group (V : Mv) (Q : Int → Mv → Prop) : Prop :=
  xA (V 50 0 + 1) fun _ => xF V 50 (V 50 0 + 1) fun V14 => xS V14 ZM 43 (V 50 0) (V14 42 0) fun V16 => xS V16 ZM 44 (V 50 0) (V16 38 0) fun V18 => ∃ n, w2_group_L37 Q n (V 50 0) 0 V18
def w2_promise (V : Mv) (Q : Int → Mv → Prop) : Prop :=
  xF V 0 0 fun V1 => w2_isFull 8 V1 (fun x3 V5 =>  xI (x3 = 0) (w2_capability  V5 (fun x9 V11 =>  xL V11 ZM 13 x9 fun _ => xS V11 ZM 6 (V11 13 x9) x9 fun V15 => xA (-2 - V11 13 x9) fun _ => Q (-2 - V11 13 x9) V15 )) (w2_fails 1 V5 (fun x18 V20 =>  Q x18 V20 )) )
def w2_isKept_J26 (b0 : Int) (V : Mv) (Q : Int → Mv → Prop) : Prop :=
  xR b0 (Q b0 V)
def w2_isKept_J25 (V : Mv) (Q : Int → Mv → Prop) : Prop :=
  w2_isKept_J26 0 V Q
def w2_isKept (a1 : Int) (V : Mv) (Q : Int → Mv → Prop) : Prop :=
  w2_isKind a1 0 V (fun x1 V3 =>  xI (x1 = 0) (w2_isKept_J25  V3 Q) (xA ((-2) - a1) fun _ => xL V3 ZM 6 ((-2) - a1) fun _ => xI ((V3 6 ((-2) - a1)) < 0) (w2_isKept_J25  V3 Q) (w2_isKept_J26 1 V3 Q)) )
def w2_handler_J35 (V : Mv) (Q : Int → Mv → Prop) : Prop :=
  w2_fails 1 V (fun x1 V3 =>  Q x1 V3 )
def w2_handler_J41 (a1 : Int) (a2 : Int) (V : Mv) (Q : Int → Mv → Prop) : Prop :=
  xI (V 33 0 = 1000) (w2_fails 2 V (fun x15 V17 =>  Q x15 V17 )) (xS V ZM 31 (V 33 0) a1 fun V7 => xS V7 ZM 32 (V7 33 0) a2 fun V9 => xA (V9 33 0 + 1) fun _ => xF V9 33 (V9 33 0 + 1) fun V12 => xA (V12 33 0 - 1) fun _ => Q (V12 33 0 - 1) V12)
def w2_handler (a1 : Int) (a2 : Int) (V : Mv) (Q : Int → Mv → Prop) : Prop :=
  xF V 0 0 fun V21 => xI (a1 < 0) (w2_handler_J35  V21 Q) (xI (5 < a1) (w2_handler_J35  V21 Q) (w2_isValue a2 V21 (fun x23 V25 =>  xI (x23 = 0) (w2_handler_J35  V25 Q) (xI (3 < a1) (w2_isKept a2 V25 (fun x29 V31 =>  xI (x29 = 0) (w2_handler_J35  V31 Q) (w2_handler_J41 a1 a2 V31 Q) )) (w2_handler_J41 a1 a2 V25 Q)) )))
def w2_thenable_J51 (V : Mv) (Q : Int → Mv → Prop) : Prop :=
  w2_fails 1 V (fun x1 V3 =>  Q x1 V3 )
def w2_thenable (a1 : Int) (a2 : Int) (a3 : Int) (a4 : Int) (a5 : Int) (V : Mv) (Q : Int → Mv → Prop) : Prop :=
  xF V 0 0 fun V7 => xI (a1 < 0) (w2_thenable_J51  V7 Q) (xI (2 < a1) (w2_thenable_J51  V7 Q) (xI (a2 < 0) (w2_thenable_J51  V7 Q) (xI (4 < a2) (w2_thenable_J51  V7 Q) (xI (a4 < 0) (w2_thenable_J51  V7 Q) (xI (4 < a4) (w2_thenable_J51  V7 Q) (w2_isValue a3 V7 (fun x9 V11 =>  xI (x9 = 0) (w2_thenable_J51  V11 Q) (w2_isValue a5 V11 (fun x15 V17 =>  xI (x15 = 0) (w2_thenable_J51  V17 Q) (w2_isFull 8 V17 (fun x21 V23 =>  xI (x21 = 0) (w2_newObject 1 V23 (fun x27 V29 =>  xS V29 ZM 8 x27 a1 fun V33 => xS V33 ZM 9 x27 a2 fun V35 => xS V35 ZM 10 x27 a3 fun V37 => xS V37 ZM 11 x27 a4 fun V39 => xS V39 ZM 12 x27 a5 fun V41 => xA (-2 - x27) fun _ => Q (-2 - x27) V41 )) (w2_fails 2 V23 (fun x44 V46 =>  Q x44 V46 )) )) )) )))))))
def w2_settle_J96 (a5 : Int) (V : Mv) (Q : Int → Mv → Prop) : Prop :=
  xR a5 (Q a5 V)
def w2_settle_J73 (a2 : Int) (a3 : Int) (a4 : Int) (b0 : Int) (V : Mv) (Q : Int → Mv → Prop) : Prop :=
  xI (a2 = 0) (w2_resolve a4 a3 V (fun _ V3 =>  w2_settle_J96 b0 V3 Q )) (w2_reject a4 a3 V (fun _ V9 =>  w2_settle_J96 b0 V9 Q ))
def w2_settle_J35 (a1 : Int) (a2 : Int) (a3 : Int) (b1 : Int) (V : Mv) (Q : Int → Mv → Prop) : Prop :=
  xF V 0 b1 fun V13 => xI (0 < V13 0 0) (xR 0 (Q 0 V13)) (xA ((-2) - a1) fun _ => xL V13 ZM 6 ((-2) - a1) fun _ => xL V13 ZM 14 (V13 6 ((-2) - a1)) fun _ => xI ((V13 14 (V13 6 ((-2) - a1))) = 0) (w2_settle_J73 a2 a3 (V13 6 ((-2) - a1)) 1 V13 Q) (w2_settle_J73 a2 a3 (V13 6 ((-2) - a1)) 0 V13 Q))
def w2_settle_J17 (a1 : Int) (a2 : Int) (a3 : Int) (V : Mv) (Q : Int → Mv → Prop) : Prop :=
  w2_settle_J35 a1 a2 a3 1 V Q
def w2_settle (a1 : Int) (a2 : Int) (a3 : Int) (V : Mv) (Q : Int → Mv → Prop) : Prop :=
  w2_isKept a1 V (fun x16 V18 =>  xI (x16 = 0) (w2_settle_J17 a1 a2 a3 V18 Q) (w2_isValue a3 V18 (fun x22 V24 =>  xI (x22 = 0) (w2_settle_J17 a1 a2 a3 V24 Q) (w2_isFull 8 V24 (fun x28 V30 =>  xI (x28 = 0) (w2_settle_J35 a1 a2 a3 0 V30 Q) (w2_settle_J35 a1 a2 a3 2 V30 Q) )) )) )
def w2_later_J22 (V : Mv) (Q : Int → Mv → Prop) : Prop :=
  w2_fails 1 V (fun x1 V3 =>  Q x1 V3 )
def w2_later_J109 (b0 : Int) (V : Mv) (Q : Int → Mv → Prop) : Prop :=
  Q b0 V
def w2_later_J99 (a5 : Int) (V : Mv) (Q : Int → Mv → Prop) : Prop :=
  xI (a5 = 0) (w2_later_J109 0 V Q) (w2_later_J109 1 V Q)
def w2_later_J76 (a2 : Int) (a3 : Int) (a4 : Int) (b0 : Int) (V : Mv) (Q : Int → Mv → Prop) : Prop :=
  xI (a2 = 0) (w2_resolve a4 a3 V (fun _ V9 =>  w2_later_J99 b0 V9 Q )) (w2_reject a4 a3 V (fun _ V15 =>  w2_later_J99 b0 V15 Q ))
def w2_later (a1 : Int) (a2 : Int) (a3 : Int) (V : Mv) (Q : Int → Mv → Prop) : Prop :=
  xF V 0 0 fun V19 => w2_isKind a1 1 V19 (fun x21 V23 =>  xI (x21 = 0) (w2_later_J22  V23 Q) (w2_isValue a3 V23 (fun x27 V29 =>  xI (x27 = 0) (w2_later_J22  V29 Q) (w2_isFull 8 V29 (fun x33 V35 =>  xI (x33 = 0) (xA ((-2) - a1) fun _ => xL V35 ZM 6 ((-2) - a1) fun _ => xI ((V35 6 ((-2) - a1)) < 0) (Q (-1) V35) (xL V35 ZM 14 (V35 6 ((-2) - a1)) fun _ => xI ((V35 14 (V35 6 ((-2) - a1))) = 0) (w2_later_J76 a2 a3 (V35 6 ((-2) - a1)) 1 V35 Q) (w2_later_J76 a2 a3 (V35 6 ((-2) - a1)) 0 V35 Q))) (w2_fails 2 V35 (fun x40 V42 =>  Q x40 V42 )) )) )) )
def w2_then_J45 (V : Mv) (Q : Int → Mv → Prop) : Prop :=
  w2_fails 1 V (fun x1 V3 =>  Q x1 V3 )
def w2_then_J109 (a3 : Int) (b1 : Int) (b2 : Int) (b3 : Int) (b4 : Int) (V : Mv) (Q : Int → Mv → Prop) : Prop :=
  w2_then_2 b1 b2 b3 b4 a3 V (fun x7 V9 =>  xA (-2 - x7) fun _ => Q (-2 - x7) V9 )
def w2_then_J98 (a2 : Int) (a3 : Int) (a5 : Int) (b1 : Int) (b2 : Int) (V : Mv) (Q : Int → Mv → Prop) : Prop :=
  xI (a5 = 0) (w2_then_J109 a3 b1 b2 a2 0 V Q) (w2_then_J109 a3 b1 b2 a2 1 V Q)
def w2_then_J81 (a1 : Int) (a2 : Int) (a3 : Int) (b0 : Int) (V : Mv) (Q : Int → Mv → Prop) : Prop :=
  xA ((-2) - a1) fun _ => xI (a2 = (-1)) (w2_then_J98 a2 a3 b0 ((-2) - a1) 0 V Q) (w2_then_J98 a2 a3 b0 ((-2) - a1) 1 V Q)
def w2_then_J80 (a1 : Int) (a2 : Int) (a3 : Int) (V : Mv) (Q : Int → Mv → Prop) : Prop :=
  w2_then_J81 a1 a2 a3 0 V Q
def w2_then_J51 (a1 : Int) (a2 : Int) (a3 : Int) (a4 : Int) (V : Mv) (Q : Int → Mv → Prop) : Prop :=
  w2_isFull 8 V (fun x15 V17 =>  xI (x15 = 0) (xI (a4 = 0) (w2_then_J80 a1 a2 a3 V17 Q) (xI (a3 = (-1)) (w2_then_J80 a1 a2 a3 V17 Q) (w2_then_J81 a1 a2 a3 1 V17 Q))) (w2_fails 2 V17 (fun x21 V23 =>  Q x21 V23 )) )
def w2_then_J27 (a1 : Int) (a2 : Int) (a3 : Int) (a4 : Int) (V : Mv) (Q : Int → Mv → Prop) : Prop :=
  xI (a4 = 0) (w2_then_J51 a1 a2 a3 a4 V Q) (xI (a3 = (-1)) (w2_then_J51 a1 a2 a3 a4 V Q) (w2_isHandler a3 V (fun x27 V29 =>  xI (x27 = 0) (w2_then_J45  V29 Q) (w2_then_J51 a1 a2 a3 a4 V29 Q) )))
def w2_then (a1 : Int) (a2 : Int) (a3 : Int) (a4 : Int) (V : Mv) (Q : Int → Mv → Prop) : Prop :=
  xF V 0 0 fun V33 => w2_isKind a1 0 V33 (fun x35 V37 =>  xI (x35 = 0) (w2_then_J45  V37 Q) (xI (a2 = (-1)) (w2_then_J27 a1 a2 a3 a4 V37 Q) (w2_isHandler a2 V37 (fun x41 V43 =>  xI (x41 = 0) (w2_then_J45  V43 Q) (w2_then_J27 a1 a2 a3 a4 V43 Q) ))) )
def w2_lastly_J27 (V : Mv) (Q : Int → Mv → Prop) : Prop :=
  w2_fails 1 V (fun x1 V3 =>  Q x1 V3 )
def w2_lastly_J76 (a2 : Int) (b1 : Int) (b2 : Int) (b3 : Int) (b4 : Int) (V : Mv) (Q : Int → Mv → Prop) : Prop :=
  w2_then_2 b1 b2 b3 b4 a2 V (fun x7 V9 =>  xA (-2 - x7) fun _ => Q (-2 - x7) V9 )
def w2_lastly_J64 (a2 : Int) (b1 : Int) (b2 : Int) (V : Mv) (Q : Int → Mv → Prop) : Prop :=
  xI (a2 = (-1)) (w2_lastly_J76 a2 b1 b2 a2 0 V Q) (w2_lastly_J76 a2 b1 b2 a2 9 V Q)
def w2_lastly_J33 (a1 : Int) (a2 : Int) (V : Mv) (Q : Int → Mv → Prop) : Prop :=
  w2_isFull 8 V (fun x14 V16 =>  xI (x14 = 0) (xA ((-2) - a1) fun _ => xI (a2 = (-1)) (w2_lastly_J64 a2 ((-2) - a1) 0 V16 Q) (w2_lastly_J64 a2 ((-2) - a1) 8 V16 Q)) (w2_fails 2 V16 (fun x21 V23 =>  Q x21 V23 )) )
def w2_lastly (a1 : Int) (a2 : Int) (V : Mv) (Q : Int → Mv → Prop) : Prop :=
  xF V 0 0 fun V27 => w2_isKind a1 0 V27 (fun x29 V31 =>  xI (x29 = 0) (w2_lastly_J27  V31 Q) (xI (a2 = (-1)) (w2_lastly_J33 a1 a2 V31 Q) (w2_isHandler a2 V31 (fun x35 V37 =>  xI (x35 = 0) (w2_lastly_J27  V37 Q) (w2_lastly_J33 a1 a2 V37 Q) ))) )
def w2_wrap (a1 : Int) (V : Mv) (Q : Int → Mv → Prop) : Prop :=
  xF V 0 0 fun V1 => w2_isValue a1 V1 (fun x3 V5 =>  xI (x3 = 0) (w2_fails 1 V5 (fun x28 V30 =>  Q x28 V30 )) (w2_isFull 8 V5 (fun x9 V11 =>  xI (x9 = 0) (w2_promiseOf a1 V11 (fun x15 V17 =>  xA (-2 - x15) fun _ => Q (-2 - x15) V17 )) (w2_fails 2 V11 (fun x22 V24 =>  Q x22 V24 )) )) )
def w2_broken (a1 : Int) (V : Mv) (Q : Int → Mv → Prop) : Prop :=
  xF V 0 0 fun V1 => w2_isValue a1 V1 (fun x3 V5 =>  xI (x3 = 0) (w2_fails 1 V5 (fun x34 V36 =>  Q x34 V36 )) (w2_isFull 8 V5 (fun x9 V11 =>  xI (x9 = 0) (w2_capability  V11 (fun x15 V17 =>  w2_reject x15 a1 V17 (fun _ V23 =>  xL V23 ZM 13 x15 fun _ => xA (-2 - V23 13 x15) fun _ => Q (-2 - V23 13 x15) V23 ) )) (w2_fails 2 V11 (fun x28 V30 =>  Q x28 V30 )) )) )
def w2_item (a1 : Int) (V : Mv) (Q : Int → Mv → Prop) : Prop :=
  xF V 0 0 fun V1 => w2_isValue a1 V1 (fun x3 V5 =>  xI (x3 = 0) (w2_fails 1 V5 (fun x20 V22 =>  Q x20 V22 )) (xI (V5 38 0 = 200) (w2_fails 2 V5 (fun x14 V16 =>  Q x14 V16 )) (xS V5 ZM 37 (V5 38 0) a1 fun V9 => xA (V9 38 0 + 1) fun _ => xF V9 38 (V9 38 0 + 1) fun V12 => Q (V12 38 0) V12)) )
def w2_combine_J14 (V : Mv) (Q : Int → Mv → Prop) : Prop :=
  w2_fails 1 V (fun x1 V3 =>  Q x1 V3 )
def w2_combine_J245 (a2 : Int) (V : Mv) (Q : Int → Mv → Prop) : Prop :=
  xL V ZM 13 a2 fun _ => xA (-2 - V 13 a2) fun _ => Q (-2 - V 13 a2) V
def w2_combine_J242 (a2 : Int) (b1 : Int) (b2 : Int) (V : Mv) (Q : Int → Mv → Prop) : Prop :=
  w2_finish b1 b2 V (fun _ V10 =>  w2_combine_J245 a2 V10 Q )
def w2_combine_J200 (L : Int → Int → Int → Int → Mv → Prop) (a1 : Int) (a2 : Int) (a3 : Int) (a4 : Int) (V : Mv) (Q : Int → Mv → Prop) : Prop :=
  xA (a4 + 1) fun _ =>  L a1 a2 a3 (a4 + 1) V
def w2_combine_J127 (L : Int → Int → Int → Int → Mv → Prop) (a1 : Int) (a2 : Int) (a3 : Int) (a4 : Int) (a5 : Int) (a6 : Int) (V : Mv) (Q : Int → Mv → Prop) : Prop :=
  xI (a1 = 0) (w2_then_2 a6 4 a5 3 a2 V (fun x33 V35 =>  w2_combine_J200 L a1 a2 a3 a4 V35 Q )) (xI (a1 = 1) (w2_then_2 a6 5 a5 6 a5 V (fun x27 V29 =>  w2_combine_J200 L a1 a2 a3 a4 V29 Q )) (xI (a1 = 2) (w2_then_2 a6 2 a2 7 a5 V (fun x21 V23 =>  w2_combine_J200 L a1 a2 a3 a4 V23 Q )) (w2_then_2 a6 2 a2 3 a2 V (fun x15 V17 =>  w2_combine_J200 L a1 a2 a3 a4 V17 Q ))))
def w2_combine_L69 (Q : Int → Mv → Prop) : Nat → Int → Int → Int → Int → Mv → Prop
  | 0, _, _, _, _, _ => False
  | n + 1, a1, a2, a3, a4, V => xL V ZM 44 a3 fun _ => xI (a4 < V 44 a3) (xL V ZM 43 a3 fun _ => xA (V 43 a3 + a4) fun _ => xL V ZM 39 (V 43 a3 + a4) fun _ => w2_promiseOf (V 39 (V 43 a3 + a4)) V (fun x43 V45 =>  xI (a1 < 3) (xS V45 ZM 39 (V 43 a3 + a4) (-1) fun V49 => xL V49 ZM 45 a3 fun _ => xA (V49 45 a3 + 1) fun _ => xS V49 ZM 45 a3 (V49 45 a3 + 1) fun V52 => w2_combine_J127 (w2_combine_L69 Q n) a1 a2 a3 a4 (V 43 a3 + a4) x43 V52 Q) (w2_combine_J127 (w2_combine_L69 Q n) a1 a2 a3 a4 (V 43 a3 + a4) x43 V45 Q) )) (xL V ZM 45 a3 fun _ => xA (V 45 a3 - 1) fun _ => xS V ZM 45 a3 (V 45 a3 - 1) fun V40 => xI (a1 < 3) (xL V40 ZM 45 a3 fun _ => xI (V40 45 a3 = 0) (xI (a1 = 2) (w2_combine_J242 a2 a3 1 V40 Q) (w2_combine_J242 a2 a3 0 V40 Q)) (w2_combine_J245 a2 V40 Q)) (w2_combine_J245 a2 V40 Q))
def w2_combine (a1 : Int) (V : Mv) (Q : Int → Mv → Prop) : Prop :=
  xF V 0 0 fun V54 => xI (a1 < 0) (w2_combine_J14  V54 Q) (xI (3 < a1) (w2_combine_J14  V54 Q) (xA (2 * V54 38 0) fun _ => xA (8 + (2 * V54 38 0)) fun _ => w2_isFull (8 + (2 * V54 38 0)) V54 (fun x58 V60 =>  xI (x58 = 0) (w2_capability  V60 (fun x64 V66 =>  w2_group  V66 (fun x70 V72 =>  xS V72 ZM 46 x70 x64 fun V76 => xS V76 ZM 45 x70 1 fun V78 => ∃ n, w2_combine_L69 Q n a1 x64 x70 0 V78 ) )) (w2_fails 2 V60 (fun x80 V82 =>  Q x80 V82 )) )))
def w2_async_J26 (V : Mv) (Q : Int → Mv → Prop) : Prop :=
  w2_fails 1 V (fun x1 V3 =>  Q x1 V3 )
def w2_async_J32 (a1 : Int) (a2 : Int) (V : Mv) (Q : Int → Mv → Prop) : Prop :=
  w2_isFull 8 V (fun x7 V9 =>  xI (x7 = 0) (w2_capability  V9 (fun x13 V15 =>  w2_group  V15 (fun x19 V21 =>  xS V21 ZM 46 x19 x13 fun V25 => xS V25 ZM 49 x19 0 fun V27 => xS V27 ZM 47 x19 a1 fun V29 => xS V29 ZM 48 x19 a2 fun V31 => w2_goOn x19 V31 (fun _ V35 =>  xL V35 ZM 13 x13 fun _ => xA (-2 - V35 13 x13) fun _ => Q (-2 - V35 13 x13) V35 ) ) )) (w2_fails 2 V9 (fun x40 V42 =>  Q x40 V42 )) )
def w2_async (a1 : Int) (a2 : Int) (V : Mv) (Q : Int → Mv → Prop) : Prop :=
  xF V 0 0 fun V46 => w2_isValue a1 V46 (fun x48 V50 =>  xI (x48 = 0) (w2_async_J26  V50 Q) (xI (a2 = (-1)) (w2_async_J32 a1 a2 V50 Q) (w2_isHandler a2 V50 (fun x54 V56 =>  xI (x54 = 0) (w2_async_J26  V56 Q) (w2_async_J32 a1 a2 V56 Q) ))) )
def w2_jobs_J58 (a2 : Int) (V : Mv) (Q : Int → Mv → Prop) : Prop :=
  Q a2 V
def w2_jobs_J42 (V : Mv) (Q : Int → Mv → Prop) : Prop :=
  w2_fails 1 V (fun x1 V3 =>  Q x1 V3 )
def w2_jobs_L7 (Q : Int → Mv → Prop) : Nat → Int → Int → Mv → Prop
  | 0, _, _, _ => False
  | n + 1, a1, a2, V => xI (a2 < a1) (xI (V 29 0 < V 30 0) (w2_isFull 8 V (fun x7 V9 =>  xI (x7 = 0) (xI (V9 36 0 < 4000) (w2_job  V9 (fun _ V15 =>  xA (a2 + 1) fun _ =>  w2_jobs_L7 Q n a1 (a2 + 1) V15 )) (w2_jobs_J42  V9 Q)) (w2_jobs_J42  V9 Q) )) (w2_jobs_J58 a2 V Q)) (w2_jobs_J58 a2 V Q)
def w2_jobs (a1 : Int) (V : Mv) (Q : Int → Mv → Prop) : Prop :=
  xF V 0 0 fun V20 => ∃ n, w2_jobs_L7 Q n a1 0 V20
def w2_state_J46 (b0 : Int) (b1 : Int) (V : Mv) (Q : Int → Mv → Prop) : Prop :=
  xA (b0 + b1) fun _ => Q (b0 + b1) V
def w2_state (a1 : Int) (V : Mv) (Q : Int → Mv → Prop) : Prop :=
  xF V 0 0 fun V2 => w2_isKind a1 0 V2 (fun x4 V6 =>  xI (x4 = 0) (w2_fails 1 V6 (fun x12 V14 =>  Q x12 V14 )) (xA ((-2) - a1) fun _ => xL V6 ZM 3 ((-2) - a1) fun _ => xA ((-2) - a1) fun _ => xL V6 ZM 7 ((-2) - a1) fun _ => xI ((V6 7 ((-2) - a1)) = 0) (w2_state_J46 (V6 3 ((-2) - a1)) 0 V6 Q) (w2_state_J46 (V6 3 ((-2) - a1)) 4 V6 Q)) )
def w2_result_J31 (b0 : Int) (V : Mv) (Q : Int → Mv → Prop) : Prop :=
  Q b0 V
def w2_result (a1 : Int) (V : Mv) (Q : Int → Mv → Prop) : Prop :=
  xF V 0 0 fun V1 => w2_isKind a1 0 V1 (fun x3 V5 =>  xI (x3 = 0) (w2_fails 1 V5 (fun x9 V11 =>  w2_result_J31 x9 V11 Q )) (xA ((-2) - a1) fun _ => xL V5 ZM 4 ((-2) - a1) fun _ => w2_result_J31 (V5 4 ((-2) - a1)) V5 Q) )
def w2_kind_J30 (b0 : Int) (V : Mv) (Q : Int → Mv → Prop) : Prop :=
  Q b0 V
def w2_kind (a1 : Int) (V : Mv) (Q : Int → Mv → Prop) : Prop :=
  xF V 0 0 fun V1 => w2_isObject a1 V1 (fun x3 V5 =>  xI (x3 = 0) (w2_fails 1 V5 (fun x9 V11 =>  w2_kind_J30 x9 V11 Q )) (xA ((-2) - a1) fun _ => xL V5 ZM 2 ((-2) - a1) fun _ => w2_kind_J30 (V5 2 ((-2) - a1)) V5 Q) )
def w2_part_J111 (V : Mv) (Q : Int → Mv → Prop) : Prop :=
  w2_fails 1 V (fun x1 V3 =>  Q x1 V3 )
def w2_part_J144 (b0 : Int) (V : Mv) (Q : Int → Mv → Prop) : Prop :=
  Q b0 V
def w2_part_J96 (a2 : Int) (a3 : Int) (V : Mv) (Q : Int → Mv → Prop) : Prop :=
  xI (a2 < (-1)) (w2_part_J111  V Q) (xL V ZM 9 a3 fun _ => xI (a2 < V 9 a3) (xI (a2 = (-1)) (xL V ZM 9 a3 fun _ => w2_part_J144 (V 9 a3) V Q) (xL V ZM 8 a3 fun _ => xA (V 8 a3 + a2) fun _ => xL V ZM 39 (V 8 a3 + a2) fun _ => w2_part_J144 (V 39 (V 8 a3 + a2)) V Q)) (w2_part_J111  V Q))
def w2_part_J75 (b0 : Int) (V : Mv) (Q : Int → Mv → Prop) : Prop :=
  Q b0 V
def w2_part (a1 : Int) (a2 : Int) (V : Mv) (Q : Int → Mv → Prop) : Prop :=
  xF V 0 0 fun V8 => w2_isObject a1 V8 (fun x10 V12 =>  xI (x10 = 0) (w2_fails 1 V12 (fun x23 V25 =>  Q x23 V25 )) (xA ((-2) - a1) fun _ => xL V12 ZM 2 ((-2) - a1) fun _ => xI ((V12 2 ((-2) - a1)) = 5) (xI (a2 = (-1)) (w2_part_J75 2 V12 Q) (xI (a2 = 0) (xL V12 ZM 8 ((-2) - a1) fun _ => w2_part_J75 (V12 8 ((-2) - a1)) V12 Q) (xI (a2 = 1) (xL V12 ZM 9 ((-2) - a1) fun _ => w2_part_J75 (V12 9 ((-2) - a1)) V12 Q) (w2_fails 1 V12 (fun x17 V19 =>  w2_part_J75 x17 V19 Q ))))) (xL V12 ZM 2 ((-2) - a1) fun _ => xI ((V12 2 ((-2) - a1)) = 4) (w2_part_J96 a2 ((-2) - a1) V12 Q) (xL V12 ZM 2 ((-2) - a1) fun _ => xI ((V12 2 ((-2) - a1)) = 3) (w2_part_J96 a2 ((-2) - a1) V12 Q) (w2_part_J111  V12 Q)))) )
def w2_log_J17 (V : Mv) (Q : Int → Mv → Prop) : Prop :=
  Q (-1000000) V
def w2_log_J40 (b0 : Int) (V : Mv) (Q : Int → Mv → Prop) : Prop :=
  Q b0 V
def w2_log (a1 : Int) (a2 : Int) (V : Mv) (Q : Int → Mv → Prop) : Prop :=
  xF V 0 0 fun V1 => xI (a1 < 0) (w2_log_J17  V1 Q) (xI (a1 < V1 36 0) (xI (a2 = 0) (xL V1 ZM 34 a1 fun _ => w2_log_J40 (V1 34 a1) V1 Q) (xL V1 ZM 35 a1 fun _ => w2_log_J40 (V1 35 a1) V1 Q)) (w2_log_J17  V1 Q))
def w2_count (a1 : Int) (V : Mv) (Q : Int → Mv → Prop) : Prop :=
  xF V 0 0 fun V1 => xI (a1 = 0) (Q (V1 1 0) V1) (xI (a1 = 1) (xA (V1 30 0 - V1 29 0) fun _ => Q (V1 30 0 - V1 29 0) V1) (xI (a1 = 2) (Q (V1 36 0) V1) (xI (a1 = 3) (Q (V1 38 0) V1) (xI (a1 = 4) (Q (V1 33 0) V1) (w2_fails 1 V1 (fun x4 V6 =>  Q x4 V6 ))))))
