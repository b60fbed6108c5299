/-! TABLES: the methods (printed by mktab2.py) -/
set_option maxRecDepth 100000
abbrev gS0 : Nat → Bool := fun _ => false
def gSl (l : List Nat) : Nat → Bool := fun k => l.contains k
theorem gSl_ok {l : List Nat} {i : Nat} (h : ∀ j ∈ l, j + 1 ≠ i) : ∀ j, j + 1 = i → gSl l j = false := by
  intro j hj
  unfold gSl
  by_cases hm : j ∈ l
  · exact absurd hj (h j hm)
  · simpa using hm
def gTL0 : List gMd := [("CuttingRoomLaw", "law", code, 9, (some .boolean), [], (gSl [7])),
  ("CuttingRoom", "<init>", cX1_init, 1, none, [], gS0),
  ("CuttingRoomModel", "<init>", cX4_init, 2, none, [], gS0),
  ("CuttingRoomLaw", "setCloth", cX0_setCloth, 6, (some .int), [(0, 12, 15, 13), (0, 12, 19, 15)], gS0),
  ("CuttingRoomModel", "setCloth", cX4_setCloth, 5, (some .int), [], gS0),
  ("CuttingRoomModel", "thrown", cX4_thrown, 1, (some .int), [], gS0),
  ("CuttingRoomLaw", "fold", cX0_fold, 4, (some .int), [(0, 16, 19, 15)], gS0),
  ("CuttingRoomModel", "fold", cX4_fold, 3, (some .boolean), [], gS0),
  ("CuttingRoomLaw", "addFlaw", cX0_addFlaw, 5, (some .int), [(0, 10, 13, 13), (0, 10, 17, 25), (0, 10, 21, 15)], gS0),
  ("CuttingRoomModel", "addFlaw", cX4_addFlaw, 4, (some .int), [], gS0),
  ("CuttingRoom", "clearFlaws", cX1_clearFlaws, 4, (some .int), [], gS0),
  ("CuttingRoomModel", "clearFlaws", cX4_clearFlaws, 3, (some .int), [], gS0),
  ("CuttingRoomLaw", "addShape", cX0_addShape, 5, (some .int), [(0, 10, 13, 13), (0, 10, 17, 15)], gS0),
  ("CuttingRoomModel", "addShape", cX4_addShape, 4, (some .int), [], gS0),
  ("CuttingRoomLaw", "addCell", cX0_addCell, 6, (some .int), [(0, 12, 15, 35), (0, 12, 19, 13), (0, 12, 23, 25), (0, 12, 27, 15)], gS0),
  ("CuttingRoomModel", "addCell", cX4_addCell, 6, (some .int), [], gS0),
  ("CuttingRoomLaw", "setMark", cX0_setMark, 7, (some .int), [(0, 14, 17, 35), (0, 14, 21, 13), (0, 14, 25, 15)], gS0),
  ("CuttingRoomModel", "setMark", cX4_setMark, 7, (some .int), [], gS0),
  ("CuttingRoomLaw", "cellsOf", cX0_cellsOf, 4, (some .int), [(0, 9, 12, 35)], gS0),
  ("CuttingRoomModel", "cellsOf", cX4_cellsOf, 2, (some .int), [], gS0),
  ("CuttingRoomLaw", "lay", cX0_lay, 8, (some .int), [(0, 16, 19, 35), (0, 16, 23, 13), (0, 16, 27, 25), (0, 16, 31, 15)], gS0),
  ("CuttingRoomModel", "lay", cX4_lay, 6, (some .int), [], gS0),
  ("CuttingRoomLaw", "reason", cX0_reason, 8, (some .int), [(0, 16, 19, 35), (0, 16, 23, 13)], gS0),
  ("CuttingRoomModel", "reason", cX4_reason, 6, (some .char), [], gS0),
  ("CuttingRoomLaw", "nest", cX0_nest, 5, (some .int), [(0, 10, 13, 35), (0, 10, 17, 57), (0, 10, 21, 15)], gS0),
  ("CuttingRoomModel", "nest", cX4_nest, 3, (some .int), [], gS0),
  ("CuttingRoomLaw", "takeOff", cX0_takeOff, 4, (some .int), [(0, 9, 12, 57)], gS0),
  ("CuttingRoomModel", "takeOff", cX4_takeOff, 2, (some .int), [], gS0),
  ("CuttingRoom", "clear", cX1_clear, 2, (some .int), [], gS0),
  ("CuttingRoomModel", "clear", cX4_clear, 2, (some .int), [], gS0),
  ("CuttingRoom", "inMarker", cX1_inMarker, 1, (some .int), [], gS0),
  ("CuttingRoomModel", "inMarker", cX4_inMarker, 1, (some .int), [], gS0)]
def gTL1 : List gMd := [("CuttingRoomLaw", "rowOf", cX0_rowOf, 4, (some .int), [(0, 9, 12, 57)], gS0),
  ("CuttingRoomModel", "rowOf", cX4_rowOf, 2, (some .int), [], gS0),
  ("CuttingRoomLaw", "columnOf", cX0_columnOf, 4, (some .int), [(0, 9, 12, 57)], gS0),
  ("CuttingRoomModel", "columnOf", cX4_columnOf, 2, (some .int), [], gS0),
  ("CuttingRoomLaw", "turnsOf", cX0_turnsOf, 4, (some .int), [(0, 9, 12, 57)], gS0),
  ("CuttingRoomModel", "turnsOf", cX4_turnsOf, 2, (some .int), [], gS0),
  ("CuttingRoomLaw", "pieceAt", cX0_pieceAt, 5, (some .int), [(0, 10, 13, 13), (0, 10, 17, 15)], gS0),
  ("CuttingRoomModel", "pieceAt", cX4_pieceAt, 4, (some .int), [], gS0),
  ("CuttingRoomLaw", "pieceByPieces", cX0_pieceByPieces, 5, (some .int), [(0, 10, 13, 13), (0, 10, 17, 15)], gS0),
  ("CuttingRoomModel", "pieceByPieces", cX4_pieceByPieces, 3, (some .int), [], gS0),
  ("CuttingRoom", "length", cX1_length, 1, (some .int), [], gS0),
  ("CuttingRoomModel", "length", cX4_length, 1, (some .int), [], gS0),
  ("CuttingRoom", "used", cX1_used, 1, (some .int), [], gS0),
  ("CuttingRoomModel", "used", cX4_used, 1, (some .int), [], gS0),
  ("CuttingRoomLaw", "phase", cX0_phase, 4, (some .int), [(0, 9, 12, 13), (0, 9, 15, 15)], gS0),
  ("CuttingRoomModel", "phase", cX4_phase, 2, (some .int), [], gS0),
  ("CuttingRoomLaw", "addStyle", cX0_addStyle, 3, (some .int), [(0, 8, 11, 15)], gS0),
  ("CuttingRoomModel", "addStyle", cX4_addStyle, 1, (some .int), [], gS0),
  ("CuttingRoomLaw", "addPart", cX0_addPart, 6, (some .int), [(0, 12, 15, 35), (0, 12, 19, 13), (0, 12, 23, 25)], gS0),
  ("CuttingRoomModel", "addPart", cX4_addPart, 5, (some .int), [], gS0),
  ("CuttingRoomLaw", "piecesFor", cX0_piecesFor, 4, (some .int), [(0, 9, 12, 35)], gS0),
  ("CuttingRoomModel", "piecesFor", cX4_piecesFor, 2, (some .int), [], gS0),
  ("CuttingRoomLaw", "nestedLength", cX0_nestedLength, 4, (some .int), [(0, 9, 12, 35), (0, 9, 15, 25), (0, 9, 18, 15)], gS0),
  ("CuttingRoomModel", "nestedLength", cX4_nestedLength, 3, (some .int), [], gS0),
  ("CuttingRoomLaw", "nestedByTrying", cX0_nestedByTrying, 4, (some .int), [(0, 9, 12, 35), (0, 9, 15, 25), (0, 9, 18, 15)], gS0),
  ("CuttingRoomModel", "nestedByTrying", cX4_nestedByTrying, 2, (some .int), [], gS0),
  ("CuttingRoomLaw", "addCloth", cX0_addCloth, 4, (some .int), [(0, 9, 12, 13)], gS0),
  ("CuttingRoomModel", "addCloth", cX4_addCloth, 2, (some .int), [], gS0),
  ("CuttingRoom", "roll", cX1_roll, 1, (some .int), [], gS0),
  ("CuttingRoomModel", "roll", cX4_roll, 1, (some .int), [], gS0),
  ("CuttingRoomLaw", "spread", cX0_spread, 4, (some .int), [(0, 9, 12, 13), (0, 9, 15, 25), (0, 9, 18, 15)], gS0),
  ("CuttingRoomModel", "spread", cX4_spread, 4, (some .int), [], gS0)]
def gTL2 : List gMd := [("CuttingRoomLaw", "pieces", cX0_pieces, 5, (some .int), [(0, 10, 13, 35), (0, 10, 17, 25)], gS0),
  ("CuttingRoomModel", "pieces", cX4_pieces, 3, (some .int), [], gS0),
  ("CuttingRoomLaw", "canMake", cX0_canMake, 4, (some .int), [(0, 9, 12, 35), (0, 9, 15, 25)], gS0),
  ("CuttingRoomModel", "canMake", cX4_canMake, 2, (some .int), [], gS0),
  ("CuttingRoomLaw", "canMakeByTaking", cX0_canMakeByTaking, 4, (some .int), [(0, 9, 12, 35), (0, 9, 15, 25)], gS0),
  ("CuttingRoomModel", "canMakeByTaking", cX4_canMakeByTaking, 2, (some .int), [], gS0),
  ("CuttingRoomLaw", "make", cX0_make, 5, (some .int), [(0, 10, 13, 35), (0, 10, 17, 13), (0, 10, 21, 25), (0, 10, 25, 15)], gS0),
  ("CuttingRoomModel", "make", cX4_make, 5, (some .int), [], gS0),
  ("CuttingRoomLaw", "made", cX0_made, 4, (some .int), [(0, 9, 12, 35)], gS0),
  ("CuttingRoomModel", "made", cX4_made, 2, (some .int), [], gS0),
  ("CuttingRoomLaw", "pliesFor", cX0_pliesFor, 5, (some .int), [(0, 10, 13, 35), (0, 10, 17, 13), (0, 10, 21, 25), (0, 10, 25, 15)], gS0),
  ("CuttingRoomModel", "pliesFor", cX4_pliesFor, 4, (some .int), [], gS0),
  ("CuttingRoom", "cut", cX1_cut, 1, (some .long), [], gS0),
  ("CuttingRoomModel", "cut", cX4_cut, 1, (some .long), [], gS0),
  ("CuttingRoomLaw", "density", cX0_density, 3, (some .int), [(0, 8, 11, 124)], gS0),
  ("CuttingRoomModel", "density", cX4_density, 1, (some .float), [], gS0),
  ("CuttingRoomLaw", "meanCells", cX0_meanCells, 3, (some .int), [(0, 7, 10, 124)], gS0),
  ("CuttingRoomModel", "meanCells", cX4_meanCells, 1, (some .double), [], gS0),
  ("CuttingRoom", "isSound", cX1_isSound, 1, (some .boolean), [], gS0),
  ("CuttingRoomModel", "isSound", cX4_isSound, 5, (some .boolean), [], (gSl [2])),
  ("java/util/ArrayList", "<init>", cJ2_init, 1, none, [], gS0),
  ("CuttingRoom$Spot", "<init>", cX2_init, 1, none, [], gS0),
  ("CuttingRoom$Sheet", "<init>", cX3_init, 2, none, [], gS0),
  ("CuttingRoomModel", "empties", cX4_empties, 2, none, [], gS0),
  ("CuttingRoom", "setCloth", cX1_setCloth, 5, (some .int), [], gS0),
  ("CuttingRoomModel", "in", cX4_in, 3, (some .boolean), [], gS0),
  ("CuttingRoomModel", "fails", cX4_fails, 2, (some .boolean), [], gS0),
  ("CuttingRoom", "fold", cX1_fold, 3, (some .boolean), [], gS0),
  ("CuttingRoom", "addFlaw", cX1_addFlaw, 3, (some .int), [], gS0),
  ("CuttingRoomModel", "isUnderPiece", cX4_isUnderPiece, 4, (some .boolean), [], gS0),
  ("CuttingRoom", "addShape", cX1_addShape, 4, (some .int), [], gS0),
  ("CuttingRoom", "addCell", cX1_addCell, 5, (some .int), [], gS0)]
def gTL3 : List gMd := [("CuttingRoomModel", "isShape", cX4_isShape, 2, (some .boolean), [], gS0),
  ("CuttingRoomModel", "isLaid", cX4_isLaid, 4, (some .boolean), [], gS0),
  ("CuttingRoom", "setMark", cX1_setMark, 7, (some .int), [], gS0),
  ("CuttingRoom", "cellsOf", cX1_cellsOf, 2, (some .int), [], gS0),
  ("CuttingRoom", "lay", cX1_lay, 6, (some .int), [], gS0),
  ("CuttingRoomModel", "reasonFor", cX4_reasonFor, 8, (some .char), [], gS0),
  ("CuttingRoomModel", "puts", cX4_puts, 7, (some .int), [], gS0),
  ("CuttingRoom", "reason", cX1_reason, 6, (some .char), [], gS0),
  ("CuttingRoom", "nest", cX1_nest, 3, (some .int), [], gS0),
  ("CuttingRoomModel", "isNested", cX4_isNested, 4, (some .boolean), [], gS0),
  ("CuttingRoom", "takeOff", cX1_takeOff, 2, (some .int), [], gS0),
  ("CuttingRoomModel", "placeOf", cX4_placeOf, 4, (some .int), [], gS0),
  ("CuttingRoomModel", "takes", cX4_takes, 4, none, [], gS0),
  ("CuttingRoomModel", "longest", cX4_longest, 3, (some .int), [], gS0),
  ("java/util/ArrayList", "size", cJ2_size, 1, (some .int), [], gS0),
  ("java/util/ArrayList", "clear", cJ2_clear, 4, none, [], gS0),
  ("CuttingRoom$Sheet", "clear", cX3_clear, 3, none, [], gS0),
  ("CuttingRoom", "rowOf", cX1_rowOf, 2, (some .int), [], gS0),
  ("CuttingRoom", "columnOf", cX1_columnOf, 2, (some .int), [], gS0),
  ("CuttingRoom", "turnsOf", cX1_turnsOf, 2, (some .int), [], gS0),
  ("CuttingRoom", "pieceAt", cX1_pieceAt, 3, (some .int), [], gS0),
  ("CuttingRoom", "pieceByPieces", cX1_pieceByPieces, 5, (some .int), [], gS0),
  ("CuttingRoom", "countCells", cX1_countCells, 4, (some .int), [], gS0),
  ("CuttingRoomModel", "cellsUsed", cX4_cellsUsed, 3, (some .int), [], gS0),
  ("CuttingRoom", "phase", cX1_phase, 2, (some .int), [], gS0),
  ("CuttingRoom", "addStyle", cX1_addStyle, 1, (some .int), [], gS0),
  ("CuttingRoom", "addPart", cX1_addPart, 6, (some .int), [], gS0),
  ("CuttingRoomModel", "isStyle", cX4_isStyle, 2, (some .boolean), [], gS0),
  ("CuttingRoomModel", "takenBy", cX4_takenBy, 4, (some .int), [], gS0),
  ("CuttingRoom", "piecesFor", cX1_piecesFor, 2, (some .int), [], gS0),
  ("CuttingRoom", "nestedLength", cX1_nestedLength, 2, (some .int), [], gS0),
  ("CuttingRoomModel", "queues", cX4_queues, 8, (some .boolean), [], gS0)]
def gTL4 : List gMd := [("CuttingRoomModel", "leastLength", cX4_leastLength, 5, (some .int), [], gS0),
  ("CuttingRoom", "nestedByTrying", cX1_nestedByTrying, 2, (some .int), [], gS0),
  ("CuttingRoom", "addCloth", cX1_addCloth, 2, (some .int), [], gS0),
  ("CuttingRoom", "spread", cX1_spread, 7, (some .int), [], gS0),
  ("CuttingRoomModel", "takenFromRoll", cX4_takenFromRoll, 2, (some .int), [], gS0),
  ("CuttingRoomModel", "isMuch", cX4_isMuch, 4, (some .boolean), [], gS0),
  ("CuttingRoomModel", "givenBy", cX4_givenBy, 7, (some .int), [], gS0),
  ("CuttingRoom", "pieces", cX1_pieces, 4, (some .int), [], gS0),
  ("CuttingRoom", "canMake", cX1_canMake, 2, (some .int), [], gS0),
  ("CuttingRoomModel", "makes", cX4_makes, 8, (some .int), [], gS0),
  ("CuttingRoom", "canMakeByTaking", cX1_canMakeByTaking, 4, (some .int), [], gS0),
  ("CuttingRoom", "make", cX1_make, 4, (some .int), [], gS0),
  ("CuttingRoom", "made", cX1_made, 2, (some .int), [], gS0),
  ("CuttingRoom", "pliesFor", cX1_pliesFor, 5, (some .int), [], gS0),
  ("CuttingRoom", "density", cX1_density, 1, (some .float), [], gS0),
  ("CuttingRoomModel", "columns", cX4_columns, 1, (some .int), [], gS0),
  ("CuttingRoom", "meanCells", cX1_meanCells, 1, (some .double), [], gS0),
  ("CuttingRoom", "areCellsRight", cX1_areCellsRight, 5, (some .boolean), [], gS0),
  ("CuttingRoom", "countPieces", cX1_countPieces, 5, (some .long), [], (gSl [1])),
  ("java/util/AbstractList", "<init>", cJ1_init, 1, none, [], gS0),
  ("CuttingRoom", "isBetween", cX1_isBetween, 3, (some .boolean), [], gS0),
  ("CuttingRoom", "checkArgument", cX1_checkArgument, 1, none, [], gS0),
  ("java/util/ArrayList", "isEmpty", cJ2_isEmpty, 1, (some .boolean), [], gS0),
  ("CuttingRoom", "checkState", cX1_checkState, 1, none, [], gS0),
  ("CuttingRoom$Sheet", "at", cX3_at, 3, (some .int), [], gS0),
  ("CuttingRoom", "checkSupported", cX1_checkSupported, 1, none, [], gS0),
  ("CuttingRoom", "ruleOf", cX1_ruleOf, 1, (some (.object "CuttingRoom$Rule")), [], gS0),
  ("CuttingRoom$Shape", "<init>", cX5_init, 3, none, [], gS0),
  ("java/util/ArrayList", "add", cJ2_add, 2, (some .boolean), [], gS0),
  ("CuttingRoom", "checkedShape", cX1_checkedShape, 2, (some (.object "CuttingRoom$Shape")), [], gS0),
  ("CuttingRoom", "isInSquare", cX1_isInSquare, 2, (some .boolean), [], gS0),
  ("CuttingRoom$Shape", "hasCell", cX5_hasCell, 5, (some .boolean), [], gS0)]
def gTL5 : List gMd := [("CuttingRoom", "isInMarker", cX1_isInMarker, 4, (some .boolean), [], gS0),
  ("CuttingRoom$Cell", "<init>", cX6_init, 3, none, [], gS0),
  ("CuttingRoom$Shape", "vary", cX5_vary, 2, none, [], gS0),
  ("CuttingRoom$Spot", "choose", cX2_choose, 3, none, [], gS0),
  ("CuttingRoom", "checkTurns", cX1_checkTurns, 1, none, [], gS0),
  ("CuttingRoom$Spot", "move", cX2_move, 4, none, [], gS0),
  ("CuttingRoom", "findReason", cX1_findReason, 7, (some .char), [], gS0),
  ("CuttingRoom", "putIntoMarker", cX1_putIntoMarker, 2, (some .int), [], gS0),
  ("CuttingRoomModel", "mayTurn", cX4_mayTurn, 3, (some .boolean), [], gS0),
  ("CuttingRoomModel", "turns", cX4_turns, 8, none, [], gS0),
  ("CuttingRoomModel", "worst", cX4_worst, 8, (some .int), [], gS0),
  ("CuttingRoomModel", "isMarked", cX4_isMarked, 2, (some .boolean), [], gS0),
  ("CuttingRoomModel", "remainder", cX4_remainder, 3, (some .int), [], gS0),
  ("CuttingRoom", "findNest", cX1_findNest, 5, (some .boolean), [], gS0),
  ("CuttingRoom", "checkedPiece", cX1_checkedPiece, 4, (some (.object "CuttingRoom$Piece")), [], gS0),
  ("java/util/ArrayList", "remove", cJ2_remove, 5, (some .boolean), [], gS0),
  ("CuttingRoom", "layAgain", cX1_layAgain, 3, none, [], gS0),
  ("CuttingRoom", "checkCell", cX1_checkCell, 2, none, [], gS0),
  ("java/util/ArrayList", "get", cJ2_get, 2, (some (.object "java/lang/Object")), [], gS0),
  ("CuttingRoom$Piece", "has", cX8_has, 3, (some .boolean), [], gS0),
  ("CuttingRoom$Style", "<init>", cX9_init, 1, none, [], gS0),
  ("CuttingRoom", "checkedStyle", cX1_checkedStyle, 2, (some (.object "CuttingRoom$Style")), [], gS0),
  ("CuttingRoom$Style", "hasShape", cX9_hasShape, 4, (some .boolean), [], gS0),
  ("CuttingRoom$Part", "<init>", cX10_init, 3, none, [], gS0),
  ("CuttingRoom$Style", "pieces", cX9_pieces, 4, (some .int), [], gS0),
  ("CuttingRoom", "findLeast", cX1_findLeast, 5, (some .int), [], gS0),
  ("CuttingRoomModel", "tries", cX4_tries, 4, none, [], gS0),
  ("CuttingRoom", "hasRoomFor", cX1_hasRoomFor, 4, (some .boolean), [], gS0),
  ("CuttingRoom", "givenBy", cX1_givenBy, 6, (some .int), [], gS0),
  ("CuttingRoom", "checkedStyleWithParts", cX1_checkedStyleWithParts, 3, (some (.object "CuttingRoom$Style")), [], gS0),
  ("CuttingRoom$Style", "canMake", cX9_canMake, 4, (some .int), [], gS0),
  ("CuttingRoom", "isEnoughFor", cX1_isEnoughFor, 8, (some .boolean), [], gS0)]
def gTL6 : List gMd := [("CuttingRoom$Style", "take", cX9_take, 4, none, [], gS0),
  ("CuttingRoom", "checkMarker", cX1_checkMarker, 1, none, [], gS0),
  ("CuttingRoom", "columns", cX1_columns, 1, (some .int), [], gS0),
  ("java/util/AbstractCollection", "<init>", cJ0_init, 1, none, [], gS0),
  ("java/util/ArrayList", "add", cJ2_add_2, 4, none, [], gS0),
  ("CuttingRoom", "checkedIndex", cX1_checkedIndex, 2, (some (.object "java/lang/Object")), [], gS0),
  ("CuttingRoom$Cell", "isAt", cX6_isAt, 3, (some .boolean), [], gS0),
  ("CuttingRoom$Variant", "<init>", cX7_init, 8, none, [], gS0),
  ("CuttingRoom", "lambda$new$0", cX1_lambda_new_0, 2, (some .char), [], gS0),
  ("CuttingRoom", "lambda$new$1", cX1_lambda_new_1, 2, (some .char), [], gS0),
  ("CuttingRoom", "lambda$new$2", cX1_lambda_new_2, 2, (some .char), [], gS0),
  ("CuttingRoom", "lambda$new$3", cX1_lambda_new_3, 2, (some .char), [], gS0),
  ("CuttingRoom", "lambda$new$4", cX1_lambda_new_4, 2, (some .char), [], gS0),
  ("CuttingRoom", "lambda$new$5", cX1_lambda_new_5, 1, (some .char), [], gS0),
  ("CuttingRoom", "lambda$new$6", cX1_lambda_new_6, 1, (some .char), [], gS0),
  ("CuttingRoom$Piece", "<init>", cX8_init, 3, none, [], gS0),
  ("CuttingRoom$Sheet", "put", cX3_put, 3, none, [], gS0),
  ("CuttingRoomModel", "turnedRow", cX4_turnedRow, 3, (some .int), [], gS0),
  ("CuttingRoomModel", "turnedColumn", cX4_turnedColumn, 3, (some .int), [], gS0),
  ("CuttingRoomModel", "isBad", cX4_isBad, 3, (some .boolean), [], gS0),
  ("java/lang/Object", "equals", cJ20_equals, 2, (some .boolean), [], gS0),
  ("java/util/ArrayList", "fastRemove", cJ2_fastRemove, 4, none, [], gS0),
  ("CuttingRoom$Spot", "choose", cX2_choose_2, 2, none, [], gS0),
  ("java/util/Objects", "checkIndex", cJ11_checkIndex, 2, (some .int), [], gS0),
  ("java/util/ArrayList", "elementData", cJ2_elementData, 2, (some (.object "java/lang/Object")), [], gS0),
  ("CuttingRoom$Shape", "variant", cX5_variant, 3, (some (.object "CuttingRoom$Variant")), [], gS0),
  ("CuttingRoom$Variant", "has", cX7_has, 4, (some .boolean), [], gS0),
  ("CuttingRoom$Part", "pieces", cX10_pieces, 1, (some .int), [], gS0),
  ("CuttingRoom", "sortsFor", cX1_sortsFor, 6, (some (.object "java/util/List")), [], gS0),
  ("CuttingRoom$Orders", "<init>", cX12_init, 4, none, [], gS0),
  ("CuttingRoom$Orders", "tryFrom", cX12_tryFrom, 3, none, [], gS0),
  ("CuttingRoom$Shape", "enoughFor", cX5_enoughFor, 2, (some .int), [], gS0)]
def gTL7 : List gMd := [("java/lang/Math", "min", cJ3_min, 2, (some .int), [], gS0),
  ("CuttingRoom$Shape", "take", cX5_take, 2, none, [], gS0),
  ("java/util/ArrayList", "grow", cJ2_grow, 1, (some (.array (.object "java/lang/Object"))), [], gS0),
  ("CuttingRoom$Cell", "changed", cX6_changed, 5, (some (.object "CuttingRoom$Cell")), [], gS0),
  ("CuttingRoom$Spot", "cells", cX2_cells, 1, (some .int), [], gS0),
  ("CuttingRoom", "canTurn", cX1_canTurn, 1, (some .boolean), [], gS0),
  ("CuttingRoom", "isInside", cX1_isInside, 2, (some .boolean), [], gS0),
  ("CuttingRoom", "isOnFlaw", cX1_isOnFlaw, 2, (some .boolean), [], gS0),
  ("CuttingRoom$Sheet", "isTaken", cX3_isTaken, 2, (some .boolean), [], gS0),
  ("CuttingRoom$Sheet", "meets", cX3_meets, 1, (some .boolean), [], gS0),
  ("CuttingRoom$Spot", "rowOf", cX2_rowOf, 2, (some .int), [], gS0),
  ("CuttingRoom$Spot", "columnOf", cX2_columnOf, 2, (some .int), [], gS0),
  ("java/lang/Math", "max", cJ3_max, 2, (some .int), [], gS0),
  ("CuttingRoom$Sheet", "hasRemainder", cX3_hasRemainder, 1, (some .boolean), [], gS0),
  ("CuttingRoom$Sheet", "remainder", cX3_remainder, 1, (some .int), [], gS0),
  ("jdk/internal/util/Preconditions", "checkIndex", cJ12_checkIndex, 3, (some .int), [], gS0),
  ("CuttingRoom", "addSorts", cX1_addSorts, 5, none, [], gS0),
  ("CuttingRoom$Orders", "nestFirst", cX12_nestFirst, 4, (some .int), [], gS0),
  ("CuttingRoom$Orders", "isInOrder", cX12_isInOrder, 4, (some .boolean), [], gS0),
  ("java/util/ArrayList", "grow", cJ2_grow_2, 4, (some (.array (.object "java/lang/Object"))), [], gS0),
  ("CuttingRoom$Rule$1", "allows", cX13_allows, 2, (some .boolean), [], gS0),
  ("CuttingRoom$Rule$2", "allows", cX14_allows, 2, (some .boolean), [], gS0),
  ("CuttingRoom$Rule$3", "allows", cX15_allows, 2, (some .boolean), [], gS0),
  ("CuttingRoom", "isFlawed", cX1_isFlawed, 3, (some .boolean), [], gS0),
  ("CuttingRoom$Spot", "variant", cX2_variant, 1, (some (.object "CuttingRoom$Variant")), [], gS0),
  ("CuttingRoom$Spot", "markRow", cX2_markRow, 1, (some .int), [], gS0),
  ("java/lang/Math", "floorMod", cJ3_floorMod, 3, (some .int), [], gS0),
  ("CuttingRoom$Sort", "<init>", cX11_init, 3, none, [], gS0),
  ("jdk/internal/util/ArraysSupport", "newLength", cJ13_newLength, 4, (some .int), [], gS0),
  ("java/util/Arrays", "copyOf", cJ14_copyOf, 2, (some (.array (.object "java/lang/Object"))), [], gS0),
  ("jdk/internal/util/ArraysSupport", "hugeLength", cJ13_hugeLength, 3, (some .int), [], gS0),
  ("java/util/Arrays", "copyOf", cJ14_copyOf_2, 4, (some (.array (.object "java/lang/Object"))), [], gS0)]
def gTL : List gMd := gTL0 ++ (gTL1 ++ (gTL2 ++ (gTL3 ++ (gTL4 ++ (gTL5 ++ (gTL6 ++ (gTL7)))))))
def gM0 : gMd := ("", "", ⟨#[]⟩, 0, none, [], gS0)
def gT (i : Nat) : gMd := gTL.getD i gM0
theorem m_0 : gT 0 = ("CuttingRoomLaw", "law", code, 9, (some .boolean), [], (gSl [7])) := rfl
theorem m_1 : gT 1 = ("CuttingRoom", "<init>", cX1_init, 1, none, [], gS0) := rfl
theorem m_2 : gT 2 = ("CuttingRoomModel", "<init>", cX4_init, 2, none, [], gS0) := rfl
theorem m_3 : gT 3 = ("CuttingRoomLaw", "setCloth", cX0_setCloth, 6, (some .int), [(0, 12, 15, 13), (0, 12, 19, 15)], gS0) := rfl
theorem m_4 : gT 4 = ("CuttingRoomModel", "setCloth", cX4_setCloth, 5, (some .int), [], gS0) := rfl
theorem m_5 : gT 5 = ("CuttingRoomModel", "thrown", cX4_thrown, 1, (some .int), [], gS0) := rfl
theorem m_6 : gT 6 = ("CuttingRoomLaw", "fold", cX0_fold, 4, (some .int), [(0, 16, 19, 15)], gS0) := rfl
theorem m_7 : gT 7 = ("CuttingRoomModel", "fold", cX4_fold, 3, (some .boolean), [], gS0) := rfl
theorem m_8 : gT 8 = ("CuttingRoomLaw", "addFlaw", cX0_addFlaw, 5, (some .int), [(0, 10, 13, 13), (0, 10, 17, 25), (0, 10, 21, 15)], gS0) := rfl
theorem m_9 : gT 9 = ("CuttingRoomModel", "addFlaw", cX4_addFlaw, 4, (some .int), [], gS0) := rfl
theorem m_10 : gT 10 = ("CuttingRoom", "clearFlaws", cX1_clearFlaws, 4, (some .int), [], gS0) := rfl
theorem m_11 : gT 11 = ("CuttingRoomModel", "clearFlaws", cX4_clearFlaws, 3, (some .int), [], gS0) := rfl
theorem m_12 : gT 12 = ("CuttingRoomLaw", "addShape", cX0_addShape, 5, (some .int), [(0, 10, 13, 13), (0, 10, 17, 15)], gS0) := rfl
theorem m_13 : gT 13 = ("CuttingRoomModel", "addShape", cX4_addShape, 4, (some .int), [], gS0) := rfl
theorem m_14 : gT 14 = ("CuttingRoomLaw", "addCell", cX0_addCell, 6, (some .int), [(0, 12, 15, 35), (0, 12, 19, 13), (0, 12, 23, 25), (0, 12, 27, 15)], gS0) := rfl
theorem m_15 : gT 15 = ("CuttingRoomModel", "addCell", cX4_addCell, 6, (some .int), [], gS0) := rfl
theorem m_16 : gT 16 = ("CuttingRoomLaw", "setMark", cX0_setMark, 7, (some .int), [(0, 14, 17, 35), (0, 14, 21, 13), (0, 14, 25, 15)], gS0) := rfl
theorem m_17 : gT 17 = ("CuttingRoomModel", "setMark", cX4_setMark, 7, (some .int), [], gS0) := rfl
theorem m_18 : gT 18 = ("CuttingRoomLaw", "cellsOf", cX0_cellsOf, 4, (some .int), [(0, 9, 12, 35)], gS0) := rfl
theorem m_19 : gT 19 = ("CuttingRoomModel", "cellsOf", cX4_cellsOf, 2, (some .int), [], gS0) := rfl
theorem m_20 : gT 20 = ("CuttingRoomLaw", "lay", cX0_lay, 8, (some .int), [(0, 16, 19, 35), (0, 16, 23, 13), (0, 16, 27, 25), (0, 16, 31, 15)], gS0) := rfl
theorem m_21 : gT 21 = ("CuttingRoomModel", "lay", cX4_lay, 6, (some .int), [], gS0) := rfl
theorem m_22 : gT 22 = ("CuttingRoomLaw", "reason", cX0_reason, 8, (some .int), [(0, 16, 19, 35), (0, 16, 23, 13)], gS0) := rfl
theorem m_23 : gT 23 = ("CuttingRoomModel", "reason", cX4_reason, 6, (some .char), [], gS0) := rfl
theorem m_24 : gT 24 = ("CuttingRoomLaw", "nest", cX0_nest, 5, (some .int), [(0, 10, 13, 35), (0, 10, 17, 57), (0, 10, 21, 15)], gS0) := rfl
theorem m_25 : gT 25 = ("CuttingRoomModel", "nest", cX4_nest, 3, (some .int), [], gS0) := rfl
theorem m_26 : gT 26 = ("CuttingRoomLaw", "takeOff", cX0_takeOff, 4, (some .int), [(0, 9, 12, 57)], gS0) := rfl
theorem m_27 : gT 27 = ("CuttingRoomModel", "takeOff", cX4_takeOff, 2, (some .int), [], gS0) := rfl
theorem m_28 : gT 28 = ("CuttingRoom", "clear", cX1_clear, 2, (some .int), [], gS0) := rfl
theorem m_29 : gT 29 = ("CuttingRoomModel", "clear", cX4_clear, 2, (some .int), [], gS0) := rfl
theorem m_30 : gT 30 = ("CuttingRoom", "inMarker", cX1_inMarker, 1, (some .int), [], gS0) := rfl
theorem m_31 : gT 31 = ("CuttingRoomModel", "inMarker", cX4_inMarker, 1, (some .int), [], gS0) := rfl
theorem m_32 : gT 32 = ("CuttingRoomLaw", "rowOf", cX0_rowOf, 4, (some .int), [(0, 9, 12, 57)], gS0) := rfl
theorem m_33 : gT 33 = ("CuttingRoomModel", "rowOf", cX4_rowOf, 2, (some .int), [], gS0) := rfl
theorem m_34 : gT 34 = ("CuttingRoomLaw", "columnOf", cX0_columnOf, 4, (some .int), [(0, 9, 12, 57)], gS0) := rfl
theorem m_35 : gT 35 = ("CuttingRoomModel", "columnOf", cX4_columnOf, 2, (some .int), [], gS0) := rfl
theorem m_36 : gT 36 = ("CuttingRoomLaw", "turnsOf", cX0_turnsOf, 4, (some .int), [(0, 9, 12, 57)], gS0) := rfl
theorem m_37 : gT 37 = ("CuttingRoomModel", "turnsOf", cX4_turnsOf, 2, (some .int), [], gS0) := rfl
theorem m_38 : gT 38 = ("CuttingRoomLaw", "pieceAt", cX0_pieceAt, 5, (some .int), [(0, 10, 13, 13), (0, 10, 17, 15)], gS0) := rfl
theorem m_39 : gT 39 = ("CuttingRoomModel", "pieceAt", cX4_pieceAt, 4, (some .int), [], gS0) := rfl
theorem m_40 : gT 40 = ("CuttingRoomLaw", "pieceByPieces", cX0_pieceByPieces, 5, (some .int), [(0, 10, 13, 13), (0, 10, 17, 15)], gS0) := rfl
theorem m_41 : gT 41 = ("CuttingRoomModel", "pieceByPieces", cX4_pieceByPieces, 3, (some .int), [], gS0) := rfl
theorem m_42 : gT 42 = ("CuttingRoom", "length", cX1_length, 1, (some .int), [], gS0) := rfl
theorem m_43 : gT 43 = ("CuttingRoomModel", "length", cX4_length, 1, (some .int), [], gS0) := rfl
theorem m_44 : gT 44 = ("CuttingRoom", "used", cX1_used, 1, (some .int), [], gS0) := rfl
theorem m_45 : gT 45 = ("CuttingRoomModel", "used", cX4_used, 1, (some .int), [], gS0) := rfl
theorem m_46 : gT 46 = ("CuttingRoomLaw", "phase", cX0_phase, 4, (some .int), [(0, 9, 12, 13), (0, 9, 15, 15)], gS0) := rfl
theorem m_47 : gT 47 = ("CuttingRoomModel", "phase", cX4_phase, 2, (some .int), [], gS0) := rfl
theorem m_48 : gT 48 = ("CuttingRoomLaw", "addStyle", cX0_addStyle, 3, (some .int), [(0, 8, 11, 15)], gS0) := rfl
theorem m_49 : gT 49 = ("CuttingRoomModel", "addStyle", cX4_addStyle, 1, (some .int), [], gS0) := rfl
theorem m_50 : gT 50 = ("CuttingRoomLaw", "addPart", cX0_addPart, 6, (some .int), [(0, 12, 15, 35), (0, 12, 19, 13), (0, 12, 23, 25)], gS0) := rfl
theorem m_51 : gT 51 = ("CuttingRoomModel", "addPart", cX4_addPart, 5, (some .int), [], gS0) := rfl
theorem m_52 : gT 52 = ("CuttingRoomLaw", "piecesFor", cX0_piecesFor, 4, (some .int), [(0, 9, 12, 35)], gS0) := rfl
theorem m_53 : gT 53 = ("CuttingRoomModel", "piecesFor", cX4_piecesFor, 2, (some .int), [], gS0) := rfl
theorem m_54 : gT 54 = ("CuttingRoomLaw", "nestedLength", cX0_nestedLength, 4, (some .int), [(0, 9, 12, 35), (0, 9, 15, 25), (0, 9, 18, 15)], gS0) := rfl
theorem m_55 : gT 55 = ("CuttingRoomModel", "nestedLength", cX4_nestedLength, 3, (some .int), [], gS0) := rfl
theorem m_56 : gT 56 = ("CuttingRoomLaw", "nestedByTrying", cX0_nestedByTrying, 4, (some .int), [(0, 9, 12, 35), (0, 9, 15, 25), (0, 9, 18, 15)], gS0) := rfl
theorem m_57 : gT 57 = ("CuttingRoomModel", "nestedByTrying", cX4_nestedByTrying, 2, (some .int), [], gS0) := rfl
theorem m_58 : gT 58 = ("CuttingRoomLaw", "addCloth", cX0_addCloth, 4, (some .int), [(0, 9, 12, 13)], gS0) := rfl
theorem m_59 : gT 59 = ("CuttingRoomModel", "addCloth", cX4_addCloth, 2, (some .int), [], gS0) := rfl
theorem m_60 : gT 60 = ("CuttingRoom", "roll", cX1_roll, 1, (some .int), [], gS0) := rfl
theorem m_61 : gT 61 = ("CuttingRoomModel", "roll", cX4_roll, 1, (some .int), [], gS0) := rfl
theorem m_62 : gT 62 = ("CuttingRoomLaw", "spread", cX0_spread, 4, (some .int), [(0, 9, 12, 13), (0, 9, 15, 25), (0, 9, 18, 15)], gS0) := rfl
theorem m_63 : gT 63 = ("CuttingRoomModel", "spread", cX4_spread, 4, (some .int), [], gS0) := rfl
theorem m_64 : gT 64 = ("CuttingRoomLaw", "pieces", cX0_pieces, 5, (some .int), [(0, 10, 13, 35), (0, 10, 17, 25)], gS0) := rfl
theorem m_65 : gT 65 = ("CuttingRoomModel", "pieces", cX4_pieces, 3, (some .int), [], gS0) := rfl
theorem m_66 : gT 66 = ("CuttingRoomLaw", "canMake", cX0_canMake, 4, (some .int), [(0, 9, 12, 35), (0, 9, 15, 25)], gS0) := rfl
theorem m_67 : gT 67 = ("CuttingRoomModel", "canMake", cX4_canMake, 2, (some .int), [], gS0) := rfl
theorem m_68 : gT 68 = ("CuttingRoomLaw", "canMakeByTaking", cX0_canMakeByTaking, 4, (some .int), [(0, 9, 12, 35), (0, 9, 15, 25)], gS0) := rfl
theorem m_69 : gT 69 = ("CuttingRoomModel", "canMakeByTaking", cX4_canMakeByTaking, 2, (some .int), [], gS0) := rfl
theorem m_70 : gT 70 = ("CuttingRoomLaw", "make", cX0_make, 5, (some .int), [(0, 10, 13, 35), (0, 10, 17, 13), (0, 10, 21, 25), (0, 10, 25, 15)], gS0) := rfl
theorem m_71 : gT 71 = ("CuttingRoomModel", "make", cX4_make, 5, (some .int), [], gS0) := rfl
theorem m_72 : gT 72 = ("CuttingRoomLaw", "made", cX0_made, 4, (some .int), [(0, 9, 12, 35)], gS0) := rfl
theorem m_73 : gT 73 = ("CuttingRoomModel", "made", cX4_made, 2, (some .int), [], gS0) := rfl
theorem m_74 : gT 74 = ("CuttingRoomLaw", "pliesFor", cX0_pliesFor, 5, (some .int), [(0, 10, 13, 35), (0, 10, 17, 13), (0, 10, 21, 25), (0, 10, 25, 15)], gS0) := rfl
theorem m_75 : gT 75 = ("CuttingRoomModel", "pliesFor", cX4_pliesFor, 4, (some .int), [], gS0) := rfl
theorem m_76 : gT 76 = ("CuttingRoom", "cut", cX1_cut, 1, (some .long), [], gS0) := rfl
theorem m_77 : gT 77 = ("CuttingRoomModel", "cut", cX4_cut, 1, (some .long), [], gS0) := rfl
theorem m_78 : gT 78 = ("CuttingRoomLaw", "density", cX0_density, 3, (some .int), [(0, 8, 11, 124)], gS0) := rfl
theorem m_79 : gT 79 = ("CuttingRoomModel", "density", cX4_density, 1, (some .float), [], gS0) := rfl
theorem m_80 : gT 80 = ("CuttingRoomLaw", "meanCells", cX0_meanCells, 3, (some .int), [(0, 7, 10, 124)], gS0) := rfl
theorem m_81 : gT 81 = ("CuttingRoomModel", "meanCells", cX4_meanCells, 1, (some .double), [], gS0) := rfl
theorem m_82 : gT 82 = ("CuttingRoom", "isSound", cX1_isSound, 1, (some .boolean), [], gS0) := rfl
theorem m_83 : gT 83 = ("CuttingRoomModel", "isSound", cX4_isSound, 5, (some .boolean), [], (gSl [2])) := rfl
theorem m_84 : gT 84 = ("java/util/ArrayList", "<init>", cJ2_init, 1, none, [], gS0) := rfl
theorem m_85 : gT 85 = ("CuttingRoom$Spot", "<init>", cX2_init, 1, none, [], gS0) := rfl
theorem m_86 : gT 86 = ("CuttingRoom$Sheet", "<init>", cX3_init, 2, none, [], gS0) := rfl
theorem m_87 : gT 87 = ("CuttingRoomModel", "empties", cX4_empties, 2, none, [], gS0) := rfl
theorem m_88 : gT 88 = ("CuttingRoom", "setCloth", cX1_setCloth, 5, (some .int), [], gS0) := rfl
theorem m_89 : gT 89 = ("CuttingRoomModel", "in", cX4_in, 3, (some .boolean), [], gS0) := rfl
theorem m_90 : gT 90 = ("CuttingRoomModel", "fails", cX4_fails, 2, (some .boolean), [], gS0) := rfl
theorem m_91 : gT 91 = ("CuttingRoom", "fold", cX1_fold, 3, (some .boolean), [], gS0) := rfl
theorem m_92 : gT 92 = ("CuttingRoom", "addFlaw", cX1_addFlaw, 3, (some .int), [], gS0) := rfl
theorem m_93 : gT 93 = ("CuttingRoomModel", "isUnderPiece", cX4_isUnderPiece, 4, (some .boolean), [], gS0) := rfl
theorem m_94 : gT 94 = ("CuttingRoom", "addShape", cX1_addShape, 4, (some .int), [], gS0) := rfl
theorem m_95 : gT 95 = ("CuttingRoom", "addCell", cX1_addCell, 5, (some .int), [], gS0) := rfl
theorem m_96 : gT 96 = ("CuttingRoomModel", "isShape", cX4_isShape, 2, (some .boolean), [], gS0) := rfl
theorem m_97 : gT 97 = ("CuttingRoomModel", "isLaid", cX4_isLaid, 4, (some .boolean), [], gS0) := rfl
theorem m_98 : gT 98 = ("CuttingRoom", "setMark", cX1_setMark, 7, (some .int), [], gS0) := rfl
theorem m_99 : gT 99 = ("CuttingRoom", "cellsOf", cX1_cellsOf, 2, (some .int), [], gS0) := rfl
theorem m_100 : gT 100 = ("CuttingRoom", "lay", cX1_lay, 6, (some .int), [], gS0) := rfl
theorem m_101 : gT 101 = ("CuttingRoomModel", "reasonFor", cX4_reasonFor, 8, (some .char), [], gS0) := rfl
theorem m_102 : gT 102 = ("CuttingRoomModel", "puts", cX4_puts, 7, (some .int), [], gS0) := rfl
theorem m_103 : gT 103 = ("CuttingRoom", "reason", cX1_reason, 6, (some .char), [], gS0) := rfl
theorem m_104 : gT 104 = ("CuttingRoom", "nest", cX1_nest, 3, (some .int), [], gS0) := rfl
theorem m_105 : gT 105 = ("CuttingRoomModel", "isNested", cX4_isNested, 4, (some .boolean), [], gS0) := rfl
theorem m_106 : gT 106 = ("CuttingRoom", "takeOff", cX1_takeOff, 2, (some .int), [], gS0) := rfl
theorem m_107 : gT 107 = ("CuttingRoomModel", "placeOf", cX4_placeOf, 4, (some .int), [], gS0) := rfl
theorem m_108 : gT 108 = ("CuttingRoomModel", "takes", cX4_takes, 4, none, [], gS0) := rfl
theorem m_109 : gT 109 = ("CuttingRoomModel", "longest", cX4_longest, 3, (some .int), [], gS0) := rfl
theorem m_110 : gT 110 = ("java/util/ArrayList", "size", cJ2_size, 1, (some .int), [], gS0) := rfl
theorem m_111 : gT 111 = ("java/util/ArrayList", "clear", cJ2_clear, 4, none, [], gS0) := rfl
theorem m_112 : gT 112 = ("CuttingRoom$Sheet", "clear", cX3_clear, 3, none, [], gS0) := rfl
theorem m_113 : gT 113 = ("CuttingRoom", "rowOf", cX1_rowOf, 2, (some .int), [], gS0) := rfl
theorem m_114 : gT 114 = ("CuttingRoom", "columnOf", cX1_columnOf, 2, (some .int), [], gS0) := rfl
theorem m_115 : gT 115 = ("CuttingRoom", "turnsOf", cX1_turnsOf, 2, (some .int), [], gS0) := rfl
theorem m_116 : gT 116 = ("CuttingRoom", "pieceAt", cX1_pieceAt, 3, (some .int), [], gS0) := rfl
theorem m_117 : gT 117 = ("CuttingRoom", "pieceByPieces", cX1_pieceByPieces, 5, (some .int), [], gS0) := rfl
theorem m_118 : gT 118 = ("CuttingRoom", "countCells", cX1_countCells, 4, (some .int), [], gS0) := rfl
theorem m_119 : gT 119 = ("CuttingRoomModel", "cellsUsed", cX4_cellsUsed, 3, (some .int), [], gS0) := rfl
theorem m_120 : gT 120 = ("CuttingRoom", "phase", cX1_phase, 2, (some .int), [], gS0) := rfl
theorem m_121 : gT 121 = ("CuttingRoom", "addStyle", cX1_addStyle, 1, (some .int), [], gS0) := rfl
theorem m_122 : gT 122 = ("CuttingRoom", "addPart", cX1_addPart, 6, (some .int), [], gS0) := rfl
theorem m_123 : gT 123 = ("CuttingRoomModel", "isStyle", cX4_isStyle, 2, (some .boolean), [], gS0) := rfl
theorem m_124 : gT 124 = ("CuttingRoomModel", "takenBy", cX4_takenBy, 4, (some .int), [], gS0) := rfl
theorem m_125 : gT 125 = ("CuttingRoom", "piecesFor", cX1_piecesFor, 2, (some .int), [], gS0) := rfl
theorem m_126 : gT 126 = ("CuttingRoom", "nestedLength", cX1_nestedLength, 2, (some .int), [], gS0) := rfl
theorem m_127 : gT 127 = ("CuttingRoomModel", "queues", cX4_queues, 8, (some .boolean), [], gS0) := rfl
theorem m_128 : gT 128 = ("CuttingRoomModel", "leastLength", cX4_leastLength, 5, (some .int), [], gS0) := rfl
theorem m_129 : gT 129 = ("CuttingRoom", "nestedByTrying", cX1_nestedByTrying, 2, (some .int), [], gS0) := rfl
theorem m_130 : gT 130 = ("CuttingRoom", "addCloth", cX1_addCloth, 2, (some .int), [], gS0) := rfl
theorem m_131 : gT 131 = ("CuttingRoom", "spread", cX1_spread, 7, (some .int), [], gS0) := rfl
theorem m_132 : gT 132 = ("CuttingRoomModel", "takenFromRoll", cX4_takenFromRoll, 2, (some .int), [], gS0) := rfl
theorem m_133 : gT 133 = ("CuttingRoomModel", "isMuch", cX4_isMuch, 4, (some .boolean), [], gS0) := rfl
theorem m_134 : gT 134 = ("CuttingRoomModel", "givenBy", cX4_givenBy, 7, (some .int), [], gS0) := rfl
theorem m_135 : gT 135 = ("CuttingRoom", "pieces", cX1_pieces, 4, (some .int), [], gS0) := rfl
theorem m_136 : gT 136 = ("CuttingRoom", "canMake", cX1_canMake, 2, (some .int), [], gS0) := rfl
theorem m_137 : gT 137 = ("CuttingRoomModel", "makes", cX4_makes, 8, (some .int), [], gS0) := rfl
theorem m_138 : gT 138 = ("CuttingRoom", "canMakeByTaking", cX1_canMakeByTaking, 4, (some .int), [], gS0) := rfl
theorem m_139 : gT 139 = ("CuttingRoom", "make", cX1_make, 4, (some .int), [], gS0) := rfl
theorem m_140 : gT 140 = ("CuttingRoom", "made", cX1_made, 2, (some .int), [], gS0) := rfl
theorem m_141 : gT 141 = ("CuttingRoom", "pliesFor", cX1_pliesFor, 5, (some .int), [], gS0) := rfl
theorem m_142 : gT 142 = ("CuttingRoom", "density", cX1_density, 1, (some .float), [], gS0) := rfl
theorem m_143 : gT 143 = ("CuttingRoomModel", "columns", cX4_columns, 1, (some .int), [], gS0) := rfl
theorem m_144 : gT 144 = ("CuttingRoom", "meanCells", cX1_meanCells, 1, (some .double), [], gS0) := rfl
theorem m_145 : gT 145 = ("CuttingRoom", "areCellsRight", cX1_areCellsRight, 5, (some .boolean), [], gS0) := rfl
theorem m_146 : gT 146 = ("CuttingRoom", "countPieces", cX1_countPieces, 5, (some .long), [], (gSl [1])) := rfl
theorem m_147 : gT 147 = ("java/util/AbstractList", "<init>", cJ1_init, 1, none, [], gS0) := rfl
theorem m_148 : gT 148 = ("CuttingRoom", "isBetween", cX1_isBetween, 3, (some .boolean), [], gS0) := rfl
theorem m_149 : gT 149 = ("CuttingRoom", "checkArgument", cX1_checkArgument, 1, none, [], gS0) := rfl
theorem m_150 : gT 150 = ("java/util/ArrayList", "isEmpty", cJ2_isEmpty, 1, (some .boolean), [], gS0) := rfl
theorem m_151 : gT 151 = ("CuttingRoom", "checkState", cX1_checkState, 1, none, [], gS0) := rfl
theorem m_152 : gT 152 = ("CuttingRoom$Sheet", "at", cX3_at, 3, (some .int), [], gS0) := rfl
theorem m_153 : gT 153 = ("CuttingRoom", "checkSupported", cX1_checkSupported, 1, none, [], gS0) := rfl
theorem m_154 : gT 154 = ("CuttingRoom", "ruleOf", cX1_ruleOf, 1, (some (.object "CuttingRoom$Rule")), [], gS0) := rfl
theorem m_155 : gT 155 = ("CuttingRoom$Shape", "<init>", cX5_init, 3, none, [], gS0) := rfl
theorem m_156 : gT 156 = ("java/util/ArrayList", "add", cJ2_add, 2, (some .boolean), [], gS0) := rfl
theorem m_157 : gT 157 = ("CuttingRoom", "checkedShape", cX1_checkedShape, 2, (some (.object "CuttingRoom$Shape")), [], gS0) := rfl
theorem m_158 : gT 158 = ("CuttingRoom", "isInSquare", cX1_isInSquare, 2, (some .boolean), [], gS0) := rfl
theorem m_159 : gT 159 = ("CuttingRoom$Shape", "hasCell", cX5_hasCell, 5, (some .boolean), [], gS0) := rfl
theorem m_160 : gT 160 = ("CuttingRoom", "isInMarker", cX1_isInMarker, 4, (some .boolean), [], gS0) := rfl
theorem m_161 : gT 161 = ("CuttingRoom$Cell", "<init>", cX6_init, 3, none, [], gS0) := rfl
theorem m_162 : gT 162 = ("CuttingRoom$Shape", "vary", cX5_vary, 2, none, [], gS0) := rfl
theorem m_163 : gT 163 = ("CuttingRoom$Spot", "choose", cX2_choose, 3, none, [], gS0) := rfl
theorem m_164 : gT 164 = ("CuttingRoom", "checkTurns", cX1_checkTurns, 1, none, [], gS0) := rfl
theorem m_165 : gT 165 = ("CuttingRoom$Spot", "move", cX2_move, 4, none, [], gS0) := rfl
theorem m_166 : gT 166 = ("CuttingRoom", "findReason", cX1_findReason, 7, (some .char), [], gS0) := rfl
theorem m_167 : gT 167 = ("CuttingRoom", "putIntoMarker", cX1_putIntoMarker, 2, (some .int), [], gS0) := rfl
theorem m_168 : gT 168 = ("CuttingRoomModel", "mayTurn", cX4_mayTurn, 3, (some .boolean), [], gS0) := rfl
theorem m_169 : gT 169 = ("CuttingRoomModel", "turns", cX4_turns, 8, none, [], gS0) := rfl
theorem m_170 : gT 170 = ("CuttingRoomModel", "worst", cX4_worst, 8, (some .int), [], gS0) := rfl
theorem m_171 : gT 171 = ("CuttingRoomModel", "isMarked", cX4_isMarked, 2, (some .boolean), [], gS0) := rfl
theorem m_172 : gT 172 = ("CuttingRoomModel", "remainder", cX4_remainder, 3, (some .int), [], gS0) := rfl
theorem m_173 : gT 173 = ("CuttingRoom", "findNest", cX1_findNest, 5, (some .boolean), [], gS0) := rfl
theorem m_174 : gT 174 = ("CuttingRoom", "checkedPiece", cX1_checkedPiece, 4, (some (.object "CuttingRoom$Piece")), [], gS0) := rfl
theorem m_175 : gT 175 = ("java/util/ArrayList", "remove", cJ2_remove, 5, (some .boolean), [], gS0) := rfl
theorem m_176 : gT 176 = ("CuttingRoom", "layAgain", cX1_layAgain, 3, none, [], gS0) := rfl
theorem m_177 : gT 177 = ("CuttingRoom", "checkCell", cX1_checkCell, 2, none, [], gS0) := rfl
theorem m_178 : gT 178 = ("java/util/ArrayList", "get", cJ2_get, 2, (some (.object "java/lang/Object")), [], gS0) := rfl
theorem m_179 : gT 179 = ("CuttingRoom$Piece", "has", cX8_has, 3, (some .boolean), [], gS0) := rfl
theorem m_180 : gT 180 = ("CuttingRoom$Style", "<init>", cX9_init, 1, none, [], gS0) := rfl
theorem m_181 : gT 181 = ("CuttingRoom", "checkedStyle", cX1_checkedStyle, 2, (some (.object "CuttingRoom$Style")), [], gS0) := rfl
theorem m_182 : gT 182 = ("CuttingRoom$Style", "hasShape", cX9_hasShape, 4, (some .boolean), [], gS0) := rfl
theorem m_183 : gT 183 = ("CuttingRoom$Part", "<init>", cX10_init, 3, none, [], gS0) := rfl
theorem m_184 : gT 184 = ("CuttingRoom$Style", "pieces", cX9_pieces, 4, (some .int), [], gS0) := rfl
theorem m_185 : gT 185 = ("CuttingRoom", "findLeast", cX1_findLeast, 5, (some .int), [], gS0) := rfl
theorem m_186 : gT 186 = ("CuttingRoomModel", "tries", cX4_tries, 4, none, [], gS0) := rfl
theorem m_187 : gT 187 = ("CuttingRoom", "hasRoomFor", cX1_hasRoomFor, 4, (some .boolean), [], gS0) := rfl
theorem m_188 : gT 188 = ("CuttingRoom", "givenBy", cX1_givenBy, 6, (some .int), [], gS0) := rfl
theorem m_189 : gT 189 = ("CuttingRoom", "checkedStyleWithParts", cX1_checkedStyleWithParts, 3, (some (.object "CuttingRoom$Style")), [], gS0) := rfl
theorem m_190 : gT 190 = ("CuttingRoom$Style", "canMake", cX9_canMake, 4, (some .int), [], gS0) := rfl
theorem m_191 : gT 191 = ("CuttingRoom", "isEnoughFor", cX1_isEnoughFor, 8, (some .boolean), [], gS0) := rfl
theorem m_192 : gT 192 = ("CuttingRoom$Style", "take", cX9_take, 4, none, [], gS0) := rfl
theorem m_193 : gT 193 = ("CuttingRoom", "checkMarker", cX1_checkMarker, 1, none, [], gS0) := rfl
theorem m_194 : gT 194 = ("CuttingRoom", "columns", cX1_columns, 1, (some .int), [], gS0) := rfl
theorem m_195 : gT 195 = ("java/util/AbstractCollection", "<init>", cJ0_init, 1, none, [], gS0) := rfl
theorem m_196 : gT 196 = ("java/util/ArrayList", "add", cJ2_add_2, 4, none, [], gS0) := rfl
theorem m_197 : gT 197 = ("CuttingRoom", "checkedIndex", cX1_checkedIndex, 2, (some (.object "java/lang/Object")), [], gS0) := rfl
theorem m_198 : gT 198 = ("CuttingRoom$Cell", "isAt", cX6_isAt, 3, (some .boolean), [], gS0) := rfl
theorem m_199 : gT 199 = ("CuttingRoom$Variant", "<init>", cX7_init, 8, none, [], gS0) := rfl
theorem m_200 : gT 200 = ("CuttingRoom", "lambda$new$0", cX1_lambda_new_0, 2, (some .char), [], gS0) := rfl
theorem m_201 : gT 201 = ("CuttingRoom", "lambda$new$1", cX1_lambda_new_1, 2, (some .char), [], gS0) := rfl
theorem m_202 : gT 202 = ("CuttingRoom", "lambda$new$2", cX1_lambda_new_2, 2, (some .char), [], gS0) := rfl
theorem m_203 : gT 203 = ("CuttingRoom", "lambda$new$3", cX1_lambda_new_3, 2, (some .char), [], gS0) := rfl
theorem m_204 : gT 204 = ("CuttingRoom", "lambda$new$4", cX1_lambda_new_4, 2, (some .char), [], gS0) := rfl
theorem m_205 : gT 205 = ("CuttingRoom", "lambda$new$5", cX1_lambda_new_5, 1, (some .char), [], gS0) := rfl
theorem m_206 : gT 206 = ("CuttingRoom", "lambda$new$6", cX1_lambda_new_6, 1, (some .char), [], gS0) := rfl
theorem m_207 : gT 207 = ("CuttingRoom$Piece", "<init>", cX8_init, 3, none, [], gS0) := rfl
theorem m_208 : gT 208 = ("CuttingRoom$Sheet", "put", cX3_put, 3, none, [], gS0) := rfl
theorem m_209 : gT 209 = ("CuttingRoomModel", "turnedRow", cX4_turnedRow, 3, (some .int), [], gS0) := rfl
theorem m_210 : gT 210 = ("CuttingRoomModel", "turnedColumn", cX4_turnedColumn, 3, (some .int), [], gS0) := rfl
theorem m_211 : gT 211 = ("CuttingRoomModel", "isBad", cX4_isBad, 3, (some .boolean), [], gS0) := rfl
theorem m_212 : gT 212 = ("java/lang/Object", "equals", cJ20_equals, 2, (some .boolean), [], gS0) := rfl
theorem m_213 : gT 213 = ("java/util/ArrayList", "fastRemove", cJ2_fastRemove, 4, none, [], gS0) := rfl
theorem m_214 : gT 214 = ("CuttingRoom$Spot", "choose", cX2_choose_2, 2, none, [], gS0) := rfl
theorem m_215 : gT 215 = ("java/util/Objects", "checkIndex", cJ11_checkIndex, 2, (some .int), [], gS0) := rfl
theorem m_216 : gT 216 = ("java/util/ArrayList", "elementData", cJ2_elementData, 2, (some (.object "java/lang/Object")), [], gS0) := rfl
theorem m_217 : gT 217 = ("CuttingRoom$Shape", "variant", cX5_variant, 3, (some (.object "CuttingRoom$Variant")), [], gS0) := rfl
theorem m_218 : gT 218 = ("CuttingRoom$Variant", "has", cX7_has, 4, (some .boolean), [], gS0) := rfl
theorem m_219 : gT 219 = ("CuttingRoom$Part", "pieces", cX10_pieces, 1, (some .int), [], gS0) := rfl
theorem m_220 : gT 220 = ("CuttingRoom", "sortsFor", cX1_sortsFor, 6, (some (.object "java/util/List")), [], gS0) := rfl
theorem m_221 : gT 221 = ("CuttingRoom$Orders", "<init>", cX12_init, 4, none, [], gS0) := rfl
theorem m_222 : gT 222 = ("CuttingRoom$Orders", "tryFrom", cX12_tryFrom, 3, none, [], gS0) := rfl
theorem m_223 : gT 223 = ("CuttingRoom$Shape", "enoughFor", cX5_enoughFor, 2, (some .int), [], gS0) := rfl
theorem m_224 : gT 224 = ("java/lang/Math", "min", cJ3_min, 2, (some .int), [], gS0) := rfl
theorem m_225 : gT 225 = ("CuttingRoom$Shape", "take", cX5_take, 2, none, [], gS0) := rfl
theorem m_226 : gT 226 = ("java/util/ArrayList", "grow", cJ2_grow, 1, (some (.array (.object "java/lang/Object"))), [], gS0) := rfl
theorem m_227 : gT 227 = ("CuttingRoom$Cell", "changed", cX6_changed, 5, (some (.object "CuttingRoom$Cell")), [], gS0) := rfl
theorem m_228 : gT 228 = ("CuttingRoom$Spot", "cells", cX2_cells, 1, (some .int), [], gS0) := rfl
theorem m_229 : gT 229 = ("CuttingRoom", "canTurn", cX1_canTurn, 1, (some .boolean), [], gS0) := rfl
theorem m_230 : gT 230 = ("CuttingRoom", "isInside", cX1_isInside, 2, (some .boolean), [], gS0) := rfl
theorem m_231 : gT 231 = ("CuttingRoom", "isOnFlaw", cX1_isOnFlaw, 2, (some .boolean), [], gS0) := rfl
theorem m_232 : gT 232 = ("CuttingRoom$Sheet", "isTaken", cX3_isTaken, 2, (some .boolean), [], gS0) := rfl
theorem m_233 : gT 233 = ("CuttingRoom$Sheet", "meets", cX3_meets, 1, (some .boolean), [], gS0) := rfl
theorem m_234 : gT 234 = ("CuttingRoom$Spot", "rowOf", cX2_rowOf, 2, (some .int), [], gS0) := rfl
theorem m_235 : gT 235 = ("CuttingRoom$Spot", "columnOf", cX2_columnOf, 2, (some .int), [], gS0) := rfl
theorem m_236 : gT 236 = ("java/lang/Math", "max", cJ3_max, 2, (some .int), [], gS0) := rfl
theorem m_237 : gT 237 = ("CuttingRoom$Sheet", "hasRemainder", cX3_hasRemainder, 1, (some .boolean), [], gS0) := rfl
theorem m_238 : gT 238 = ("CuttingRoom$Sheet", "remainder", cX3_remainder, 1, (some .int), [], gS0) := rfl
theorem m_239 : gT 239 = ("jdk/internal/util/Preconditions", "checkIndex", cJ12_checkIndex, 3, (some .int), [], gS0) := rfl
theorem m_240 : gT 240 = ("CuttingRoom", "addSorts", cX1_addSorts, 5, none, [], gS0) := rfl
theorem m_241 : gT 241 = ("CuttingRoom$Orders", "nestFirst", cX12_nestFirst, 4, (some .int), [], gS0) := rfl
theorem m_242 : gT 242 = ("CuttingRoom$Orders", "isInOrder", cX12_isInOrder, 4, (some .boolean), [], gS0) := rfl
theorem m_243 : gT 243 = ("java/util/ArrayList", "grow", cJ2_grow_2, 4, (some (.array (.object "java/lang/Object"))), [], gS0) := rfl
theorem m_244 : gT 244 = ("CuttingRoom$Rule$1", "allows", cX13_allows, 2, (some .boolean), [], gS0) := rfl
theorem m_245 : gT 245 = ("CuttingRoom$Rule$2", "allows", cX14_allows, 2, (some .boolean), [], gS0) := rfl
theorem m_246 : gT 246 = ("CuttingRoom$Rule$3", "allows", cX15_allows, 2, (some .boolean), [], gS0) := rfl
theorem m_247 : gT 247 = ("CuttingRoom", "isFlawed", cX1_isFlawed, 3, (some .boolean), [], gS0) := rfl
theorem m_248 : gT 248 = ("CuttingRoom$Spot", "variant", cX2_variant, 1, (some (.object "CuttingRoom$Variant")), [], gS0) := rfl
theorem m_249 : gT 249 = ("CuttingRoom$Spot", "markRow", cX2_markRow, 1, (some .int), [], gS0) := rfl
theorem m_250 : gT 250 = ("java/lang/Math", "floorMod", cJ3_floorMod, 3, (some .int), [], gS0) := rfl
theorem m_251 : gT 251 = ("CuttingRoom$Sort", "<init>", cX11_init, 3, none, [], gS0) := rfl
theorem m_252 : gT 252 = ("jdk/internal/util/ArraysSupport", "newLength", cJ13_newLength, 4, (some .int), [], gS0) := rfl
theorem m_253 : gT 253 = ("java/util/Arrays", "copyOf", cJ14_copyOf, 2, (some (.array (.object "java/lang/Object"))), [], gS0) := rfl
theorem m_254 : gT 254 = ("jdk/internal/util/ArraysSupport", "hugeLength", cJ13_hugeLength, 3, (some .int), [], gS0) := rfl
theorem m_255 : gT 255 = ("java/util/Arrays", "copyOf", cJ14_copyOf_2, 4, (some (.array (.object "java/lang/Object"))), [], gS0) := rfl
def gHA : List ((Nat × Nat) × Int32) := [((12, 13), 1), ((12, 17), 2), ((14, 15), 1), ((14, 19), 2), ((14, 23), 3), ((14, 27), 4), ((16, 17), 1), ((16, 21), 2), ((16, 25), 3), ((18, 12), 1), ((20, 19), 1), ((20, 23), 2), ((20, 27), 3), ((20, 31), 4), ((22, 19), 1), ((22, 23), 2), ((24, 13), 1), ((24, 17), 2), ((24, 21), 3), ((26, 12), 1), ((3, 15), 1), ((3, 19), 2), ((32, 12), 1), ((34, 12), 1), ((36, 12), 1), ((38, 13), 1), ((38, 17), 2), ((40, 13), 1), ((40, 17), 2), ((46, 12), 1), ((46, 15), 2), ((48, 11), 1), ((50, 15), 1), ((50, 19), 2), ((50, 23), 3), ((52, 12), 1), ((54, 12), 1), ((54, 15), 2), ((54, 18), 3), ((56, 12), 1), ((56, 15), 2), ((56, 18), 3), ((58, 12), 1), ((6, 19), 1), ((62, 12), 1), ((62, 15), 2), ((62, 18), 3), ((64, 13), 1), ((64, 17), 2), ((66, 12), 1), ((66, 15), 2), ((68, 12), 1), ((68, 15), 2), ((70, 13), 1), ((70, 17), 2), ((70, 21), 3), ((70, 25), 4), ((72, 12), 1), ((74, 13), 1), ((74, 17), 2), ((74, 21), 3), ((74, 25), 4), ((78, 11), 1), ((8, 13), 1), ((8, 17), 2), ((8, 21), 3), ((80, 10), 1)]
def gHd (mi pc k : Nat) : Option (Option Int32) := match (gT mi).2.2.2.2.2.1 with
  | [] => none
  | q :: l => some (match gHx (q :: l) pc k with
    | none => none
    | some h => gHA.lookup (mi, h))
theorem gHn {mi : Nat} {own nm : String} {cc : ByteArray} {mx : Nat} {rt : Option FieldType} {S : Nat → Bool} (h : gT mi = (own, nm, cc, mx, rt, [], S)) {pc : Nat} : ∀ E, gHd mi pc E = none := by
  intro E
  unfold gHd
  rw [h]
def gAll (Z : gZ) (K : gK) (mi : Nat) : List (Nat × gS) → Prop
  | [] => True
  | q :: l => SO Z K gT gHd mi q.1 q.2 ∧ gAll Z K mi l
theorem gAll_app {Z : gZ} {K : gK} {mi : Nat} : ∀ {l1 l2 : List (Nat × gS)}, gAll Z K mi l1 → gAll Z K mi l2 → gAll Z K mi (l1 ++ l2)
  | [], _, _, h => h
  | _ :: _, _, h1, h2 => ⟨h1.1, gAll_app h1.2 h2⟩
theorem gAll_look {Z : gZ} {K : gK} {mi : Nat} : ∀ {l : List (Nat × gS)}, gAll Z K mi l → ∀ {pc : Nat} {f : gS}, l.lookup pc = some f → SO Z K gT gHd mi pc f
  | [], _, _, _, h => by cases h
  | (a, g) :: l, h1, pc, f, h => by
    rw [List.lookup_cons] at h
    split at h
    · rename_i e
      cases h
      have : pc = a := by simpa using e
      rw [this]
      exact h1.1
    · exact gAll_look h1.2 h
theorem cal_1 : gCal gT 1 "CuttingRoom" "<init>" cX1_init 1 none gS0 yX1_init 0 1 := ⟨m_1, rfl, rfl, ⟨plainFor_of_name (by decide), fun _ _ => rfl⟩, by decide, by decide, q104, q66, ⟨by decide, by decide, by decide +kernel⟩⟩
theorem cal_2 : gCal gT 2 "CuttingRoomModel" "<init>" cX4_init 2 none gS0 yX4_init 0 1 := ⟨m_2, rfl, rfl, ⟨plainFor_of_name (by decide), fun _ h => absurd h (by decide)⟩, by decide, by decide, q1387, q73, ⟨by decide, by decide, by decide +kernel⟩⟩
theorem cal_4 : gCal gT 4 "CuttingRoomModel" "setCloth" cX4_setCloth 5 (some .int) gS0 yX4_setCloth 3 4 := ⟨m_4, rfl, rfl, ⟨plainFor_of_name (by decide), fun h => absurd h (by decide)⟩, by decide, by decide, q1549, q73, ⟨by decide, by decide, by decide +kernel⟩⟩
theorem cal_5 : gCal gT 5 "CuttingRoomModel" "thrown" cX4_thrown 1 (some .int) gS0 yX4_thrown 0 1 := ⟨m_5, rfl, rfl, ⟨plainFor_of_name (by decide), fun h => absurd h (by decide)⟩, by decide, by decide, q1545, q73, ⟨by decide, by decide, by decide +kernel⟩⟩
theorem cal_7 : gCal gT 7 "CuttingRoomModel" "fold" cX4_fold 3 (some .boolean) gS0 yX4_fold 1 2 := ⟨m_7, rfl, rfl, ⟨plainFor_of_name (by decide), fun h => absurd h (by decide)⟩, by decide, by decide, q1560, q73, ⟨by decide, by decide, by decide +kernel⟩⟩
theorem cal_9 : gCal gT 9 "CuttingRoomModel" "addFlaw" cX4_addFlaw 4 (some .int) gS0 yX4_addFlaw 2 3 := ⟨m_9, rfl, rfl, ⟨plainFor_of_name (by decide), fun h => absurd h (by decide)⟩, by decide, by decide, q1564, q73, ⟨by decide, by decide, by decide +kernel⟩⟩
theorem cal_10 : gCal gT 10 "CuttingRoom" "clearFlaws" cX1_clearFlaws 4 (some .int) gS0 yX1_clearFlaws 0 1 := ⟨m_10, rfl, rfl, ⟨plainFor_of_name (by decide), fun h => absurd h (by decide)⟩, by decide, by decide, q371, q66, ⟨by decide, by decide, by decide +kernel⟩⟩
theorem cal_11 : gCal gT 11 "CuttingRoomModel" "clearFlaws" cX4_clearFlaws 3 (some .int) gS0 yX4_clearFlaws 0 1 := ⟨m_11, rfl, rfl, ⟨plainFor_of_name (by decide), fun h => absurd h (by decide)⟩, by decide, by decide, q1572, q73, ⟨by decide, by decide, by decide +kernel⟩⟩
theorem cal_13 : gCal gT 13 "CuttingRoomModel" "addShape" cX4_addShape 4 (some .int) gS0 yX4_addShape 2 3 := ⟨m_13, rfl, rfl, ⟨plainFor_of_name (by decide), fun h => absurd h (by decide)⟩, by decide, by decide, q1576, q73, ⟨by decide, by decide, by decide +kernel⟩⟩
theorem cal_15 : gCal gT 15 "CuttingRoomModel" "addCell" cX4_addCell 6 (some .int) gS0 yX4_addCell 3 4 := ⟨m_15, rfl, rfl, ⟨plainFor_of_name (by decide), fun h => absurd h (by decide)⟩, by decide, by decide, q1580, q73, ⟨by decide, by decide, by decide +kernel⟩⟩
theorem cal_17 : gCal gT 17 "CuttingRoomModel" "setMark" cX4_setMark 7 (some .int) gS0 yX4_setMark 4 5 := ⟨m_17, rfl, rfl, ⟨plainFor_of_name (by decide), fun h => absurd h (by decide)⟩, by decide, by decide, q1592, q73, ⟨by decide, by decide, by decide +kernel⟩⟩
theorem cal_19 : gCal gT 19 "CuttingRoomModel" "cellsOf" cX4_cellsOf 2 (some .int) gS0 yX4_cellsOf 1 2 := ⟨m_19, rfl, rfl, ⟨plainFor_of_name (by decide), fun h => absurd h (by decide)⟩, by decide, by decide, q1596, q73, ⟨by decide, by decide, by decide +kernel⟩⟩
theorem cal_21 : gCal gT 21 "CuttingRoomModel" "lay" cX4_lay 6 (some .int) gS0 yX4_lay 5 6 := ⟨m_21, rfl, rfl, ⟨plainFor_of_name (by decide), fun h => absurd h (by decide)⟩, by decide, by decide, q1600, q73, ⟨by decide, by decide, by decide +kernel⟩⟩
theorem cal_23 : gCal gT 23 "CuttingRoomModel" "reason" cX4_reason 6 (some .char) gS0 yX4_reason 5 6 := ⟨m_23, rfl, rfl, ⟨plainFor_of_name (by decide), fun h => absurd h (by decide)⟩, by decide, by decide, q1646, q73, ⟨by decide, by decide, by decide +kernel⟩⟩
theorem cal_25 : gCal gT 25 "CuttingRoomModel" "nest" cX4_nest 3 (some .int) gS0 yX4_nest 2 3 := ⟨m_25, rfl, rfl, ⟨plainFor_of_name (by decide), fun h => absurd h (by decide)⟩, by decide, by decide, q1650, q73, ⟨by decide, by decide, by decide +kernel⟩⟩
theorem cal_27 : gCal gT 27 "CuttingRoomModel" "takeOff" cX4_takeOff 2 (some .int) gS0 yX4_takeOff 1 2 := ⟨m_27, rfl, rfl, ⟨plainFor_of_name (by decide), fun h => absurd h (by decide)⟩, by decide, by decide, q1658, q73, ⟨by decide, by decide, by decide +kernel⟩⟩
theorem cal_28 : gCal gT 28 "CuttingRoom" "clear" cX1_clear 2 (some .int) gS0 yX1_clear 0 1 := ⟨m_28, rfl, rfl, ⟨plainFor_of_name (by decide), fun h => absurd h (by decide)⟩, by decide, by decide, q375, q66, ⟨by decide, by decide, by decide +kernel⟩⟩
theorem cal_29 : gCal gT 29 "CuttingRoomModel" "clear" cX4_clear 2 (some .int) gS0 yX4_clear 0 1 := ⟨m_29, rfl, rfl, ⟨plainFor_of_name (by decide), fun h => absurd h (by decide)⟩, by decide, by decide, q1674, q73, ⟨by decide, by decide, by decide +kernel⟩⟩
theorem cal_30 : gCal gT 30 "CuttingRoom" "inMarker" cX1_inMarker 1 (some .int) gS0 yX1_inMarker 0 1 := ⟨m_30, rfl, rfl, ⟨plainFor_of_name (by decide), fun h => absurd h (by decide)⟩, by decide, by decide, q391, q66, ⟨by decide, by decide, by decide +kernel⟩⟩
theorem cal_31 : gCal gT 31 "CuttingRoomModel" "inMarker" cX4_inMarker 1 (some .int) gS0 yX4_inMarker 0 1 := ⟨m_31, rfl, rfl, ⟨plainFor_of_name (by decide), fun h => absurd h (by decide)⟩, by decide, by decide, q1678, q73, ⟨by decide, by decide, by decide +kernel⟩⟩
theorem cal_33 : gCal gT 33 "CuttingRoomModel" "rowOf" cX4_rowOf 2 (some .int) gS0 yX4_rowOf 1 2 := ⟨m_33, rfl, rfl, ⟨plainFor_of_name (by decide), fun h => absurd h (by decide)⟩, by decide, by decide, q1682, q73, ⟨by decide, by decide, by decide +kernel⟩⟩
theorem cal_35 : gCal gT 35 "CuttingRoomModel" "columnOf" cX4_columnOf 2 (some .int) gS0 yX4_columnOf 1 2 := ⟨m_35, rfl, rfl, ⟨plainFor_of_name (by decide), fun h => absurd h (by decide)⟩, by decide, by decide, q1686, q73, ⟨by decide, by decide, by decide +kernel⟩⟩
theorem cal_37 : gCal gT 37 "CuttingRoomModel" "turnsOf" cX4_turnsOf 2 (some .int) gS0 yX4_turnsOf 1 2 := ⟨m_37, rfl, rfl, ⟨plainFor_of_name (by decide), fun h => absurd h (by decide)⟩, by decide, by decide, q1690, q73, ⟨by decide, by decide, by decide +kernel⟩⟩
theorem cal_39 : gCal gT 39 "CuttingRoomModel" "pieceAt" cX4_pieceAt 4 (some .int) gS0 yX4_pieceAt 2 3 := ⟨m_39, rfl, rfl, ⟨plainFor_of_name (by decide), fun h => absurd h (by decide)⟩, by decide, by decide, q1694, q73, ⟨by decide, by decide, by decide +kernel⟩⟩
theorem cal_41 : gCal gT 41 "CuttingRoomModel" "pieceByPieces" cX4_pieceByPieces 3 (some .int) gS0 yX4_pieceByPieces 2 3 := ⟨m_41, rfl, rfl, ⟨plainFor_of_name (by decide), fun h => absurd h (by decide)⟩, by decide, by decide, q1698, q73, ⟨by decide, by decide, by decide +kernel⟩⟩
theorem cal_42 : gCal gT 42 "CuttingRoom" "length" cX1_length 1 (some .int) gS0 yX1_length 0 1 := ⟨m_42, rfl, rfl, ⟨plainFor_of_name (by decide), fun h => absurd h (by decide)⟩, by decide, by decide, q395, q66, ⟨by decide, by decide, by decide +kernel⟩⟩
theorem cal_43 : gCal gT 43 "CuttingRoomModel" "length" cX4_length 1 (some .int) gS0 yX4_length 0 1 := ⟨m_43, rfl, rfl, ⟨plainFor_of_name (by decide), fun h => absurd h (by decide)⟩, by decide, by decide, q1703, q73, ⟨by decide, by decide, by decide +kernel⟩⟩
theorem cal_44 : gCal gT 44 "CuttingRoom" "used" cX1_used 1 (some .int) gS0 yX1_used 0 1 := ⟨m_44, rfl, rfl, ⟨plainFor_of_name (by decide), fun h => absurd h (by decide)⟩, by decide, by decide, q399, q66, ⟨by decide, by decide, by decide +kernel⟩⟩
theorem cal_45 : gCal gT 45 "CuttingRoomModel" "used" cX4_used 1 (some .int) gS0 yX4_used 0 1 := ⟨m_45, rfl, rfl, ⟨plainFor_of_name (by decide), fun h => absurd h (by decide)⟩, by decide, by decide, q1707, q73, ⟨by decide, by decide, by decide +kernel⟩⟩
theorem cal_47 : gCal gT 47 "CuttingRoomModel" "phase" cX4_phase 2 (some .int) gS0 yX4_phase 1 2 := ⟨m_47, rfl, rfl, ⟨plainFor_of_name (by decide), fun h => absurd h (by decide)⟩, by decide, by decide, q1715, q73, ⟨by decide, by decide, by decide +kernel⟩⟩
theorem cal_49 : gCal gT 49 "CuttingRoomModel" "addStyle" cX4_addStyle 1 (some .int) gS0 yX4_addStyle 0 1 := ⟨m_49, rfl, rfl, ⟨plainFor_of_name (by decide), fun h => absurd h (by decide)⟩, by decide, by decide, q1719, q73, ⟨by decide, by decide, by decide +kernel⟩⟩
theorem cal_51 : gCal gT 51 "CuttingRoomModel" "addPart" cX4_addPart 5 (some .int) gS0 yX4_addPart 3 4 := ⟨m_51, rfl, rfl, ⟨plainFor_of_name (by decide), fun h => absurd h (by decide)⟩, by decide, by decide, q1723, q73, ⟨by decide, by decide, by decide +kernel⟩⟩
theorem cal_53 : gCal gT 53 "CuttingRoomModel" "piecesFor" cX4_piecesFor 2 (some .int) gS0 yX4_piecesFor 1 2 := ⟨m_53, rfl, rfl, ⟨plainFor_of_name (by decide), fun h => absurd h (by decide)⟩, by decide, by decide, q1735, q73, ⟨by decide, by decide, by decide +kernel⟩⟩
theorem cal_55 : gCal gT 55 "CuttingRoomModel" "nestedLength" cX4_nestedLength 3 (some .int) gS0 yX4_nestedLength 1 2 := ⟨m_55, rfl, rfl, ⟨plainFor_of_name (by decide), fun h => absurd h (by decide)⟩, by decide, by decide, q1739, q73, ⟨by decide, by decide, by decide +kernel⟩⟩
theorem cal_57 : gCal gT 57 "CuttingRoomModel" "nestedByTrying" cX4_nestedByTrying 2 (some .int) gS0 yX4_nestedByTrying 1 2 := ⟨m_57, rfl, rfl, ⟨plainFor_of_name (by decide), fun h => absurd h (by decide)⟩, by decide, by decide, q1755, q73, ⟨by decide, by decide, by decide +kernel⟩⟩
theorem cal_59 : gCal gT 59 "CuttingRoomModel" "addCloth" cX4_addCloth 2 (some .int) gS0 yX4_addCloth 1 2 := ⟨m_59, rfl, rfl, ⟨plainFor_of_name (by decide), fun h => absurd h (by decide)⟩, by decide, by decide, q1760, q73, ⟨by decide, by decide, by decide +kernel⟩⟩
theorem cal_60 : gCal gT 60 "CuttingRoom" "roll" cX1_roll 1 (some .int) gS0 yX1_roll 0 1 := ⟨m_60, rfl, rfl, ⟨plainFor_of_name (by decide), fun h => absurd h (by decide)⟩, by decide, by decide, q427, q66, ⟨by decide, by decide, by decide +kernel⟩⟩
theorem cal_61 : gCal gT 61 "CuttingRoomModel" "roll" cX4_roll 1 (some .int) gS0 yX4_roll 0 1 := ⟨m_61, rfl, rfl, ⟨plainFor_of_name (by decide), fun h => absurd h (by decide)⟩, by decide, by decide, q1765, q73, ⟨by decide, by decide, by decide +kernel⟩⟩
theorem cal_63 : gCal gT 63 "CuttingRoomModel" "spread" cX4_spread 4 (some .int) gS0 yX4_spread 1 2 := ⟨m_63, rfl, rfl, ⟨plainFor_of_name (by decide), fun h => absurd h (by decide)⟩, by decide, by decide, q1769, q73, ⟨by decide, by decide, by decide +kernel⟩⟩
theorem cal_65 : gCal gT 65 "CuttingRoomModel" "pieces" cX4_pieces 3 (some .int) gS0 yX4_pieces 2 3 := ⟨m_65, rfl, rfl, ⟨plainFor_of_name (by decide), fun h => absurd h (by decide)⟩, by decide, by decide, q1785, q73, ⟨by decide, by decide, by decide +kernel⟩⟩
theorem cal_67 : gCal gT 67 "CuttingRoomModel" "canMake" cX4_canMake 2 (some .int) gS0 yX4_canMake 1 2 := ⟨m_67, rfl, rfl, ⟨plainFor_of_name (by decide), fun h => absurd h (by decide)⟩, by decide, by decide, q1789, q73, ⟨by decide, by decide, by decide +kernel⟩⟩
theorem cal_69 : gCal gT 69 "CuttingRoomModel" "canMakeByTaking" cX4_canMakeByTaking 2 (some .int) gS0 yX4_canMakeByTaking 1 2 := ⟨m_69, rfl, rfl, ⟨plainFor_of_name (by decide), fun h => absurd h (by decide)⟩, by decide, by decide, q1798, q73, ⟨by decide, by decide, by decide +kernel⟩⟩
theorem cal_71 : gCal gT 71 "CuttingRoomModel" "make" cX4_make 5 (some .int) gS0 yX4_make 2 3 := ⟨m_71, rfl, rfl, ⟨plainFor_of_name (by decide), fun h => absurd h (by decide)⟩, by decide, by decide, q1803, q73, ⟨by decide, by decide, by decide +kernel⟩⟩
theorem cal_73 : gCal gT 73 "CuttingRoomModel" "made" cX4_made 2 (some .int) gS0 yX4_made 1 2 := ⟨m_73, rfl, rfl, ⟨plainFor_of_name (by decide), fun h => absurd h (by decide)⟩, by decide, by decide, q1807, q73, ⟨by decide, by decide, by decide +kernel⟩⟩
theorem cal_75 : gCal gT 75 "CuttingRoomModel" "pliesFor" cX4_pliesFor 4 (some .int) gS0 yX4_pliesFor 2 3 := ⟨m_75, rfl, rfl, ⟨plainFor_of_name (by decide), fun h => absurd h (by decide)⟩, by decide, by decide, q1811, q73, ⟨by decide, by decide, by decide +kernel⟩⟩
theorem cal_76 : gCal gT 76 "CuttingRoom" "cut" cX1_cut 1 (some .long) gS0 yX1_cut 0 1 := ⟨m_76, rfl, rfl, ⟨plainFor_of_name (by decide), fun h => absurd h (by decide)⟩, by decide, by decide, q431, q66, ⟨by decide, by decide, by decide +kernel⟩⟩
theorem cal_77 : gCal gT 77 "CuttingRoomModel" "cut" cX4_cut 1 (some .long) gS0 yX4_cut 0 1 := ⟨m_77, rfl, rfl, ⟨plainFor_of_name (by decide), fun h => absurd h (by decide)⟩, by decide, by decide, q1815, q73, ⟨by decide, by decide, by decide +kernel⟩⟩
theorem cal_79 : gCal gT 79 "CuttingRoomModel" "density" cX4_density 1 (some .float) gS0 yX4_density 0 1 := ⟨m_79, rfl, rfl, ⟨plainFor_of_name (by decide), fun h => absurd h (by decide)⟩, by decide, by decide, q1819, q73, ⟨by decide, by decide, by decide +kernel⟩⟩
theorem cal_81 : gCal gT 81 "CuttingRoomModel" "meanCells" cX4_meanCells 1 (some .double) gS0 yX4_meanCells 0 1 := ⟨m_81, rfl, rfl, ⟨plainFor_of_name (by decide), fun h => absurd h (by decide)⟩, by decide, by decide, q1823, q73, ⟨by decide, by decide, by decide +kernel⟩⟩
theorem cal_82 : gCal gT 82 "CuttingRoom" "isSound" cX1_isSound 1 (some .boolean) gS0 yX1_isSound 0 1 := ⟨m_82, rfl, rfl, ⟨plainFor_of_name (by decide), fun h => absurd h (by decide)⟩, by decide, by decide, q435, q66, ⟨by decide, by decide, by decide +kernel⟩⟩
theorem cal_83 : gCal gT 83 "CuttingRoomModel" "isSound" cX4_isSound 5 (some .boolean) (gSl [2]) yX4_isSound 0 1 := ⟨m_83, rfl, rfl, ⟨plainFor_of_name (by decide), fun h => absurd h (by decide)⟩, by decide, by decide, q1827, q73, ⟨by decide, by decide, by decide +kernel⟩⟩
theorem cal_84 : gCal gT 84 "java/util/ArrayList" "<init>" cJ2_init 1 none gS0 yJ2_init 0 1 := ⟨m_84, rfl, rfl, ⟨plainFor_of_name (by decide), fun _ h => absurd h (by decide)⟩, by decide, by decide, q112, q69, ⟨by decide, by decide, by decide +kernel⟩⟩
theorem cal_85 : gCal gT 85 "CuttingRoom$Spot" "<init>" cX2_init 1 none gS0 yX2_init 0 1 := ⟨m_85, rfl, rfl, ⟨plainFor_of_name (by decide), fun _ h => absurd h (by decide)⟩, by decide, by decide, q140, q70, ⟨by decide, by decide, by decide +kernel⟩⟩
theorem cal_86 : gCal gT 86 "CuttingRoom$Sheet" "<init>" cX3_init 2 none gS0 yX3_init 1 2 := ⟨m_86, rfl, rfl, ⟨plainFor_of_name (by decide), fun _ h => absurd h (by decide)⟩, by decide, by decide, q174, q71, ⟨by decide, by decide, by decide +kernel⟩⟩
theorem cal_87 : gCal gT 87 "CuttingRoomModel" "empties" cX4_empties 2 none gS0 yX4_empties 0 1 := ⟨m_87, rfl, rfl, ⟨plainFor_of_name (by decide), fun h => absurd h (by decide)⟩, by decide, by decide, q1392, q73, ⟨by decide, by decide, by decide +kernel⟩⟩
theorem cal_88 : gCal gT 88 "CuttingRoom" "setCloth" cX1_setCloth 5 (some .int) gS0 yX1_setCloth 3 4 := ⟨m_88, rfl, rfl, ⟨plainFor_of_name (by decide), fun h => absurd h (by decide)⟩, by decide, by decide, q549, q66, ⟨by decide, by decide, by decide +kernel⟩⟩
theorem cal_89 : gCal gT 89 "CuttingRoomModel" "in" cX4_in 3 (some .boolean) gS0 yX4_in 3 3 := ⟨m_89, rfl, rfl, ⟨plainFor_of_name (by decide), fun h => absurd h (by decide)⟩, by decide, by decide, q1552, q73, ⟨by decide, by decide, by decide +kernel⟩⟩
theorem cal_90 : gCal gT 90 "CuttingRoomModel" "fails" cX4_fails 2 (some .boolean) gS0 yX4_fails 1 2 := ⟨m_90, rfl, rfl, ⟨plainFor_of_name (by decide), fun h => absurd h (by decide)⟩, by decide, by decide, q1556, q73, ⟨by decide, by decide, by decide +kernel⟩⟩
theorem cal_91 : gCal gT 91 "CuttingRoom" "fold" cX1_fold 3 (some .boolean) gS0 yX1_fold 1 2 := ⟨m_91, rfl, rfl, ⟨plainFor_of_name (by decide), fun h => absurd h (by decide)⟩, by decide, by decide, q601, q66, ⟨by decide, by decide, by decide +kernel⟩⟩
theorem cal_92 : gCal gT 92 "CuttingRoom" "addFlaw" cX1_addFlaw 3 (some .int) gS0 yX1_addFlaw 2 3 := ⟨m_92, rfl, rfl, ⟨plainFor_of_name (by decide), fun h => absurd h (by decide)⟩, by decide, by decide, q609, q66, ⟨by decide, by decide, by decide +kernel⟩⟩
theorem cal_93 : gCal gT 93 "CuttingRoomModel" "isUnderPiece" cX4_isUnderPiece 4 (some .boolean) gS0 yX4_isUnderPiece 2 3 := ⟨m_93, rfl, rfl, ⟨plainFor_of_name (by decide), fun h => absurd h (by decide)⟩, by decide, by decide, q1568, q73, ⟨by decide, by decide, by decide +kernel⟩⟩
theorem cal_94 : gCal gT 94 "CuttingRoom" "addShape" cX1_addShape 4 (some .int) gS0 yX1_addShape 2 3 := ⟨m_94, rfl, rfl, ⟨plainFor_of_name (by decide), fun h => absurd h (by decide)⟩, by decide, by decide, q634, q66, ⟨by decide, by decide, by decide +kernel⟩⟩
theorem cal_95 : gCal gT 95 "CuttingRoom" "addCell" cX1_addCell 5 (some .int) gS0 yX1_addCell 3 4 := ⟨m_95, rfl, rfl, ⟨plainFor_of_name (by decide), fun h => absurd h (by decide)⟩, by decide, by decide, q856, q66, ⟨by decide, by decide, by decide +kernel⟩⟩
theorem cal_96 : gCal gT 96 "CuttingRoomModel" "isShape" cX4_isShape 2 (some .boolean) gS0 yX4_isShape 1 2 := ⟨m_96, rfl, rfl, ⟨plainFor_of_name (by decide), fun h => absurd h (by decide)⟩, by decide, by decide, q1584, q73, ⟨by decide, by decide, by decide +kernel⟩⟩
theorem cal_97 : gCal gT 97 "CuttingRoomModel" "isLaid" cX4_isLaid 4 (some .boolean) gS0 yX4_isLaid 1 2 := ⟨m_97, rfl, rfl, ⟨plainFor_of_name (by decide), fun h => absurd h (by decide)⟩, by decide, by decide, q1588, q73, ⟨by decide, by decide, by decide +kernel⟩⟩
theorem cal_98 : gCal gT 98 "CuttingRoom" "setMark" cX1_setMark 7 (some .int) gS0 yX1_setMark 4 5 := ⟨m_98, rfl, rfl, ⟨plainFor_of_name (by decide), fun h => absurd h (by decide)⟩, by decide, by decide, q907, q66, ⟨by decide, by decide, by decide +kernel⟩⟩
theorem cal_99 : gCal gT 99 "CuttingRoom" "cellsOf" cX1_cellsOf 2 (some .int) gS0 yX1_cellsOf 1 2 := ⟨m_99, rfl, rfl, ⟨plainFor_of_name (by decide), fun h => absurd h (by decide)⟩, by decide, by decide, q914, q66, ⟨by decide, by decide, by decide +kernel⟩⟩
theorem cal_100 : gCal gT 100 "CuttingRoom" "lay" cX1_lay 6 (some .int) gS0 yX1_lay 5 6 := ⟨m_100, rfl, rfl, ⟨plainFor_of_name (by decide), fun h => absurd h (by decide)⟩, by decide, by decide, q921, q66, ⟨by decide, by decide, by decide +kernel⟩⟩
theorem cal_101 : gCal gT 101 "CuttingRoomModel" "reasonFor" cX4_reasonFor 8 (some .char) gS0 yX4_reasonFor 5 6 := ⟨m_101, rfl, rfl, ⟨plainFor_of_name (by decide), fun h => absurd h (by decide)⟩, by decide, by decide, q1604, q73, ⟨by decide, by decide, by decide +kernel⟩⟩
theorem cal_102 : gCal gT 102 "CuttingRoomModel" "puts" cX4_puts 7 (some .int) gS0 yX4_puts 5 6 := ⟨m_102, rfl, rfl, ⟨plainFor_of_name (by decide), fun h => absurd h (by decide)⟩, by decide, by decide, q1642, q73, ⟨by decide, by decide, by decide +kernel⟩⟩
theorem cal_103 : gCal gT 103 "CuttingRoom" "reason" cX1_reason 6 (some .char) gS0 yX1_reason 5 6 := ⟨m_103, rfl, rfl, ⟨plainFor_of_name (by decide), fun h => absurd h (by decide)⟩, by decide, by decide, q991, q66, ⟨by decide, by decide, by decide +kernel⟩⟩
theorem cal_104 : gCal gT 104 "CuttingRoom" "nest" cX1_nest 3 (some .int) gS0 yX1_nest 2 3 := ⟨m_104, rfl, rfl, ⟨plainFor_of_name (by decide), fun h => absurd h (by decide)⟩, by decide, by decide, q999, q66, ⟨by decide, by decide, by decide +kernel⟩⟩
theorem cal_105 : gCal gT 105 "CuttingRoomModel" "isNested" cX4_isNested 4 (some .boolean) gS0 yX4_isNested 2 3 := ⟨m_105, rfl, rfl, ⟨plainFor_of_name (by decide), fun h => absurd h (by decide)⟩, by decide, by decide, q1654, q73, ⟨by decide, by decide, by decide +kernel⟩⟩
theorem cal_106 : gCal gT 106 "CuttingRoom" "takeOff" cX1_takeOff 2 (some .int) gS0 yX1_takeOff 1 2 := ⟨m_106, rfl, rfl, ⟨plainFor_of_name (by decide), fun h => absurd h (by decide)⟩, by decide, by decide, q1010, q66, ⟨by decide, by decide, by decide +kernel⟩⟩
theorem cal_107 : gCal gT 107 "CuttingRoomModel" "placeOf" cX4_placeOf 4 (some .int) gS0 yX4_placeOf 1 2 := ⟨m_107, rfl, rfl, ⟨plainFor_of_name (by decide), fun h => absurd h (by decide)⟩, by decide, by decide, q1662, q73, ⟨by decide, by decide, by decide +kernel⟩⟩
theorem cal_108 : gCal gT 108 "CuttingRoomModel" "takes" cX4_takes 4 none gS0 yX4_takes 1 2 := ⟨m_108, rfl, rfl, ⟨plainFor_of_name (by decide), fun h => absurd h (by decide)⟩, by decide, by decide, q1666, q73, ⟨by decide, by decide, by decide +kernel⟩⟩
theorem cal_109 : gCal gT 109 "CuttingRoomModel" "longest" cX4_longest 3 (some .int) gS0 yX4_longest 0 1 := ⟨m_109, rfl, rfl, ⟨plainFor_of_name (by decide), fun h => absurd h (by decide)⟩, by decide, by decide, q1670, q73, ⟨by decide, by decide, by decide +kernel⟩⟩
theorem cal_110 : gCal gT 110 "java/util/ArrayList" "size" cJ2_size 1 (some .int) gS0 yJ2_size 0 1 := ⟨m_110, rfl, rfl, ⟨plainFor_of_name (by decide), fun h => absurd h (by decide)⟩, by decide, by decide, q217, q69, ⟨by decide, by decide, by decide +kernel⟩⟩
theorem cal_111 : gCal gT 111 "java/util/ArrayList" "clear" cJ2_clear 4 none gS0 yJ2_clear 0 1 := ⟨m_111, rfl, rfl, ⟨plainFor_of_name (by decide), fun h => absurd h (by decide)⟩, by decide, by decide, q386, q69, ⟨by decide, by decide, by decide +kernel⟩⟩
theorem cal_112 : gCal gT 112 "CuttingRoom$Sheet" "clear" cX3_clear 3 none gS0 yX3_clear 0 1 := ⟨m_112, rfl, rfl, ⟨plainFor_of_name (by decide), fun h => absurd h (by decide)⟩, by decide, by decide, q181, q71, ⟨by decide, by decide, by decide +kernel⟩⟩
theorem cal_113 : gCal gT 113 "CuttingRoom" "rowOf" cX1_rowOf 2 (some .int) gS0 yX1_rowOf 1 2 := ⟨m_113, rfl, rfl, ⟨plainFor_of_name (by decide), fun h => absurd h (by decide)⟩, by decide, by decide, q1069, q66, ⟨by decide, by decide, by decide +kernel⟩⟩
theorem cal_114 : gCal gT 114 "CuttingRoom" "columnOf" cX1_columnOf 2 (some .int) gS0 yX1_columnOf 1 2 := ⟨m_114, rfl, rfl, ⟨plainFor_of_name (by decide), fun h => absurd h (by decide)⟩, by decide, by decide, q1076, q66, ⟨by decide, by decide, by decide +kernel⟩⟩
theorem cal_115 : gCal gT 115 "CuttingRoom" "turnsOf" cX1_turnsOf 2 (some .int) gS0 yX1_turnsOf 1 2 := ⟨m_115, rfl, rfl, ⟨plainFor_of_name (by decide), fun h => absurd h (by decide)⟩, by decide, by decide, q1083, q66, ⟨by decide, by decide, by decide +kernel⟩⟩
theorem cal_116 : gCal gT 116 "CuttingRoom" "pieceAt" cX1_pieceAt 3 (some .int) gS0 yX1_pieceAt 2 3 := ⟨m_116, rfl, rfl, ⟨plainFor_of_name (by decide), fun h => absurd h (by decide)⟩, by decide, by decide, q1090, q66, ⟨by decide, by decide, by decide +kernel⟩⟩
theorem cal_117 : gCal gT 117 "CuttingRoom" "pieceByPieces" cX1_pieceByPieces 5 (some .int) gS0 yX1_pieceByPieces 2 3 := ⟨m_117, rfl, rfl, ⟨plainFor_of_name (by decide), fun h => absurd h (by decide)⟩, by decide, by decide, q1100, q66, ⟨by decide, by decide, by decide +kernel⟩⟩
theorem cal_118 : gCal gT 118 "CuttingRoom" "countCells" cX1_countCells 4 (some .int) gS0 yX1_countCells 0 1 := ⟨m_118, rfl, rfl, ⟨plainFor_of_name (by decide), fun h => absurd h (by decide)⟩, by decide, by decide, q403, q66, ⟨by decide, by decide, by decide +kernel⟩⟩
theorem cal_119 : gCal gT 119 "CuttingRoomModel" "cellsUsed" cX4_cellsUsed 3 (some .int) gS0 yX4_cellsUsed 0 1 := ⟨m_119, rfl, rfl, ⟨plainFor_of_name (by decide), fun h => absurd h (by decide)⟩, by decide, by decide, q1711, q73, ⟨by decide, by decide, by decide +kernel⟩⟩
theorem cal_120 : gCal gT 120 "CuttingRoom" "phase" cX1_phase 2 (some .int) gS0 yX1_phase 1 2 := ⟨m_120, rfl, rfl, ⟨plainFor_of_name (by decide), fun h => absurd h (by decide)⟩, by decide, by decide, q1107, q66, ⟨by decide, by decide, by decide +kernel⟩⟩
theorem cal_121 : gCal gT 121 "CuttingRoom" "addStyle" cX1_addStyle 1 (some .int) gS0 yX1_addStyle 0 1 := ⟨m_121, rfl, rfl, ⟨plainFor_of_name (by decide), fun h => absurd h (by decide)⟩, by decide, by decide, q1114, q66, ⟨by decide, by decide, by decide +kernel⟩⟩
theorem cal_122 : gCal gT 122 "CuttingRoom" "addPart" cX1_addPart 6 (some .int) gS0 yX1_addPart 3 4 := ⟨m_122, rfl, rfl, ⟨plainFor_of_name (by decide), fun h => absurd h (by decide)⟩, by decide, by decide, q1136, q66, ⟨by decide, by decide, by decide +kernel⟩⟩
theorem cal_123 : gCal gT 123 "CuttingRoomModel" "isStyle" cX4_isStyle 2 (some .boolean) gS0 yX4_isStyle 1 2 := ⟨m_123, rfl, rfl, ⟨plainFor_of_name (by decide), fun h => absurd h (by decide)⟩, by decide, by decide, q1727, q73, ⟨by decide, by decide, by decide +kernel⟩⟩
theorem cal_124 : gCal gT 124 "CuttingRoomModel" "takenBy" cX4_takenBy 4 (some .int) gS0 yX4_takenBy 1 2 := ⟨m_124, rfl, rfl, ⟨plainFor_of_name (by decide), fun h => absurd h (by decide)⟩, by decide, by decide, q1731, q73, ⟨by decide, by decide, by decide +kernel⟩⟩
theorem cal_125 : gCal gT 125 "CuttingRoom" "piecesFor" cX1_piecesFor 2 (some .int) gS0 yX1_piecesFor 1 2 := ⟨m_125, rfl, rfl, ⟨plainFor_of_name (by decide), fun h => absurd h (by decide)⟩, by decide, by decide, q1168, q66, ⟨by decide, by decide, by decide +kernel⟩⟩
theorem cal_126 : gCal gT 126 "CuttingRoom" "nestedLength" cX1_nestedLength 2 (some .int) gS0 yX1_nestedLength 1 2 := ⟨m_126, rfl, rfl, ⟨plainFor_of_name (by decide), fun h => absurd h (by decide)⟩, by decide, by decide, q1175, q66, ⟨by decide, by decide, by decide +kernel⟩⟩
theorem cal_127 : gCal gT 127 "CuttingRoomModel" "queues" cX4_queues 8 (some .boolean) gS0 yX4_queues 1 2 := ⟨m_127, rfl, rfl, ⟨plainFor_of_name (by decide), fun h => absurd h (by decide)⟩, by decide, by decide, q1743, q73, ⟨by decide, by decide, by decide +kernel⟩⟩
theorem cal_128 : gCal gT 128 "CuttingRoomModel" "leastLength" cX4_leastLength 5 (some .int) gS0 yX4_leastLength 0 1 := ⟨m_128, rfl, rfl, ⟨plainFor_of_name (by decide), fun h => absurd h (by decide)⟩, by decide, by decide, q1747, q73, ⟨by decide, by decide, by decide +kernel⟩⟩
theorem cal_129 : gCal gT 129 "CuttingRoom" "nestedByTrying" cX1_nestedByTrying 2 (some .int) gS0 yX1_nestedByTrying 1 2 := ⟨m_129, rfl, rfl, ⟨plainFor_of_name (by decide), fun h => absurd h (by decide)⟩, by decide, by decide, q1254, q66, ⟨by decide, by decide, by decide +kernel⟩⟩
theorem cal_130 : gCal gT 130 "CuttingRoom" "addCloth" cX1_addCloth 2 (some .int) gS0 yX1_addCloth 1 2 := ⟨m_130, rfl, rfl, ⟨plainFor_of_name (by decide), fun h => absurd h (by decide)⟩, by decide, by decide, q1261, q66, ⟨by decide, by decide, by decide +kernel⟩⟩
theorem cal_131 : gCal gT 131 "CuttingRoom" "spread" cX1_spread 7 (some .int) gS0 yX1_spread 1 2 := ⟨m_131, rfl, rfl, ⟨plainFor_of_name (by decide), fun h => absurd h (by decide)⟩, by decide, by decide, q1269, q66, ⟨by decide, by decide, by decide +kernel⟩⟩
theorem cal_132 : gCal gT 132 "CuttingRoomModel" "takenFromRoll" cX4_takenFromRoll 2 (some .int) gS0 yX4_takenFromRoll 1 2 := ⟨m_132, rfl, rfl, ⟨plainFor_of_name (by decide), fun h => absurd h (by decide)⟩, by decide, by decide, q1773, q73, ⟨by decide, by decide, by decide +kernel⟩⟩
theorem cal_133 : gCal gT 133 "CuttingRoomModel" "isMuch" cX4_isMuch 4 (some .boolean) gS0 yX4_isMuch 1 2 := ⟨m_133, rfl, rfl, ⟨plainFor_of_name (by decide), fun h => absurd h (by decide)⟩, by decide, by decide, q1777, q73, ⟨by decide, by decide, by decide +kernel⟩⟩
theorem cal_134 : gCal gT 134 "CuttingRoomModel" "givenBy" cX4_givenBy 7 (some .int) gS0 yX4_givenBy 2 3 := ⟨m_134, rfl, rfl, ⟨plainFor_of_name (by decide), fun h => absurd h (by decide)⟩, by decide, by decide, q1781, q73, ⟨by decide, by decide, by decide +kernel⟩⟩
theorem cal_135 : gCal gT 135 "CuttingRoom" "pieces" cX1_pieces 4 (some .int) gS0 yX1_pieces 2 3 := ⟨m_135, rfl, rfl, ⟨plainFor_of_name (by decide), fun h => absurd h (by decide)⟩, by decide, by decide, q1284, q66, ⟨by decide, by decide, by decide +kernel⟩⟩
theorem cal_136 : gCal gT 136 "CuttingRoom" "canMake" cX1_canMake 2 (some .int) gS0 yX1_canMake 1 2 := ⟨m_136, rfl, rfl, ⟨plainFor_of_name (by decide), fun h => absurd h (by decide)⟩, by decide, by decide, q1291, q66, ⟨by decide, by decide, by decide +kernel⟩⟩
theorem cal_137 : gCal gT 137 "CuttingRoomModel" "makes" cX4_makes 8 (some .int) gS0 yX4_makes 2 3 := ⟨m_137, rfl, rfl, ⟨plainFor_of_name (by decide), fun h => absurd h (by decide)⟩, by decide, by decide, q1793, q73, ⟨by decide, by decide, by decide +kernel⟩⟩
theorem cal_138 : gCal gT 138 "CuttingRoom" "canMakeByTaking" cX1_canMakeByTaking 4 (some .int) gS0 yX1_canMakeByTaking 1 2 := ⟨m_138, rfl, rfl, ⟨plainFor_of_name (by decide), fun h => absurd h (by decide)⟩, by decide, by decide, q1312, q66, ⟨by decide, by decide, by decide +kernel⟩⟩
theorem cal_139 : gCal gT 139 "CuttingRoom" "make" cX1_make 4 (some .int) gS0 yX1_make 2 3 := ⟨m_139, rfl, rfl, ⟨plainFor_of_name (by decide), fun h => absurd h (by decide)⟩, by decide, by decide, q1323, q66, ⟨by decide, by decide, by decide +kernel⟩⟩
theorem cal_140 : gCal gT 140 "CuttingRoom" "made" cX1_made 2 (some .int) gS0 yX1_made 1 2 := ⟨m_140, rfl, rfl, ⟨plainFor_of_name (by decide), fun h => absurd h (by decide)⟩, by decide, by decide, q1338, q66, ⟨by decide, by decide, by decide +kernel⟩⟩
theorem cal_141 : gCal gT 141 "CuttingRoom" "pliesFor" cX1_pliesFor 5 (some .int) gS0 yX1_pliesFor 2 3 := ⟨m_141, rfl, rfl, ⟨plainFor_of_name (by decide), fun h => absurd h (by decide)⟩, by decide, by decide, q1345, q66, ⟨by decide, by decide, by decide +kernel⟩⟩
theorem cal_142 : gCal gT 142 "CuttingRoom" "density" cX1_density 1 (some .float) gS0 yX1_density 0 1 := ⟨m_142, rfl, rfl, ⟨plainFor_of_name (by decide), fun h => absurd h (by decide)⟩, by decide, by decide, q1366, q66, ⟨by decide, by decide, by decide +kernel⟩⟩
theorem cal_143 : gCal gT 143 "CuttingRoomModel" "columns" cX4_columns 1 (some .int) gS0 yX4_columns 0 1 := ⟨m_143, rfl, rfl, ⟨plainFor_of_name (by decide), fun h => absurd h (by decide)⟩, by decide, by decide, q1626, q73, ⟨by decide, by decide, by decide +kernel⟩⟩
theorem cal_144 : gCal gT 144 "CuttingRoom" "meanCells" cX1_meanCells 1 (some .double) gS0 yX1_meanCells 0 1 := ⟨m_144, rfl, rfl, ⟨plainFor_of_name (by decide), fun h => absurd h (by decide)⟩, by decide, by decide, q1382, q66, ⟨by decide, by decide, by decide +kernel⟩⟩
theorem cal_145 : gCal gT 145 "CuttingRoom" "areCellsRight" cX1_areCellsRight 5 (some .boolean) gS0 yX1_areCellsRight 0 1 := ⟨m_145, rfl, rfl, ⟨plainFor_of_name (by decide), fun h => absurd h (by decide)⟩, by decide, by decide, q439, q66, ⟨by decide, by decide, by decide +kernel⟩⟩
theorem cal_146 : gCal gT 146 "CuttingRoom" "countPieces" cX1_countPieces 5 (some .long) (gSl [1]) yX1_countPieces 0 1 := ⟨m_146, rfl, rfl, ⟨plainFor_of_name (by decide), fun h => absurd h (by decide)⟩, by decide, by decide, q525, q66, ⟨by decide, by decide, by decide +kernel⟩⟩
theorem cal_147 : gCal gT 147 "java/util/AbstractList" "<init>" cJ1_init 1 none gS0 yJ1_init 0 1 := ⟨m_147, rfl, rfl, ⟨plainFor_of_name (by decide), fun _ h => absurd h (by decide)⟩, by decide, by decide, q115, q68, ⟨by decide, by decide, by decide +kernel⟩⟩
theorem cal_148 : gCal gT 148 "CuttingRoom" "isBetween" cX1_isBetween 3 (some .boolean) gS0 yX1_isBetween 3 3 := ⟨m_148, rfl, rfl, ⟨plainFor_of_name (by decide), fun h => absurd h (by decide)⟩, by decide, by decide, q249, q66, ⟨by decide, by decide, by decide +kernel⟩⟩
theorem cal_149 : gCal gT 149 "CuttingRoom" "checkArgument" cX1_checkArgument 1 none gS0 yX1_checkArgument 1 1 := ⟨m_149, rfl, rfl, ⟨plainFor_of_name (by decide), fun h => absurd h (by decide)⟩, by decide, by decide, q552, q66, ⟨by decide, by decide, by decide +kernel⟩⟩
theorem cal_150 : gCal gT 150 "java/util/ArrayList" "isEmpty" cJ2_isEmpty 1 (some .boolean) gS0 yJ2_isEmpty 0 1 := ⟨m_150, rfl, rfl, ⟨plainFor_of_name (by decide), fun h => absurd h (by decide)⟩, by decide, by decide, q576, q69, ⟨by decide, by decide, by decide +kernel⟩⟩
theorem cal_151 : gCal gT 151 "CuttingRoom" "checkState" cX1_checkState 1 none gS0 yX1_checkState 1 1 := ⟨m_151, rfl, rfl, ⟨plainFor_of_name (by decide), fun h => absurd h (by decide)⟩, by decide, by decide, q579, q66, ⟨by decide, by decide, by decide +kernel⟩⟩
theorem cal_152 : gCal gT 152 "CuttingRoom$Sheet" "at" cX3_at 3 (some .int) gS0 yX3_at 2 3 := ⟨m_152, rfl, rfl, ⟨plainFor_of_name (by decide), fun h => absurd h (by decide)⟩, by decide, by decide, q293, q71, ⟨by decide, by decide, by decide +kernel⟩⟩
theorem cal_153 : gCal gT 153 "CuttingRoom" "checkSupported" cX1_checkSupported 1 none gS0 yX1_checkSupported 1 1 := ⟨m_153, rfl, rfl, ⟨plainFor_of_name (by decide), fun h => absurd h (by decide)⟩, by decide, by decide, q612, q66, ⟨by decide, by decide, by decide +kernel⟩⟩
theorem cal_154 : gCal gT 154 "CuttingRoom" "ruleOf" cX1_ruleOf 1 (some (.object "CuttingRoom$Rule")) gS0 yX1_ruleOf 1 1 := ⟨m_154, rfl, rfl, ⟨plainFor_of_name (by decide), fun h => absurd h (by decide)⟩, by decide, by decide, q637, q66, ⟨by decide, by decide, by decide +kernel⟩⟩
theorem cal_155 : gCal gT 155 "CuttingRoom$Shape" "<init>" cX5_init 3 none gS0 yX5_init 2 3 := ⟨m_155, rfl, rfl, ⟨plainFor_of_name (by decide), fun _ h => absurd h (by decide)⟩, by decide, by decide, q647, q82, ⟨by decide, by decide, by decide +kernel⟩⟩
theorem cal_156 : gCal gT 156 "java/util/ArrayList" "add" cJ2_add 2 (some .boolean) gS0 yJ2_add 1 2 := ⟨m_156, rfl, rfl, ⟨plainFor_of_name (by decide), fun h => absurd h (by decide)⟩, by decide, by decide, q752, q69, ⟨by decide, by decide, by decide +kernel⟩⟩
theorem cal_157 : gCal gT 157 "CuttingRoom" "checkedShape" cX1_checkedShape 2 (some (.object "CuttingRoom$Shape")) gS0 yX1_checkedShape 1 2 := ⟨m_157, rfl, rfl, ⟨plainFor_of_name (by decide), fun h => absurd h (by decide)⟩, by decide, by decide, q860, q66, ⟨by decide, by decide, by decide +kernel⟩⟩
theorem cal_158 : gCal gT 158 "CuttingRoom" "isInSquare" cX1_isInSquare 2 (some .boolean) gS0 yX1_isInSquare 2 2 := ⟨m_158, rfl, rfl, ⟨plainFor_of_name (by decide), fun h => absurd h (by decide)⟩, by decide, by decide, q881, q66, ⟨by decide, by decide, by decide +kernel⟩⟩
theorem cal_159 : gCal gT 159 "CuttingRoom$Shape" "hasCell" cX5_hasCell 5 (some .boolean) gS0 yX5_hasCell 2 3 := ⟨m_159, rfl, rfl, ⟨plainFor_of_name (by decide), fun h => absurd h (by decide)⟩, by decide, by decide, q885, q82, ⟨by decide, by decide, by decide +kernel⟩⟩
theorem cal_160 : gCal gT 160 "CuttingRoom" "isInMarker" cX1_isInMarker 4 (some .boolean) gS0 yX1_isInMarker 1 2 := ⟨m_160, rfl, rfl, ⟨plainFor_of_name (by decide), fun h => absurd h (by decide)⟩, by decide, by decide, q897, q66, ⟨by decide, by decide, by decide +kernel⟩⟩
theorem cal_161 : gCal gT 161 "CuttingRoom$Cell" "<init>" cX6_init 3 none gS0 yX6_init 2 3 := ⟨m_161, rfl, rfl, ⟨plainFor_of_name (by decide), fun _ h => absurd h (by decide)⟩, by decide, by decide, q655, q83, ⟨by decide, by decide, by decide +kernel⟩⟩
theorem cal_162 : gCal gT 162 "CuttingRoom$Shape" "vary" cX5_vary 2 none gS0 yX5_vary 0 1 := ⟨m_162, rfl, rfl, ⟨plainFor_of_name (by decide), fun h => absurd h (by decide)⟩, by decide, by decide, q671, q82, ⟨by decide, by decide, by decide +kernel⟩⟩
theorem cal_163 : gCal gT 163 "CuttingRoom$Spot" "choose" cX2_choose 3 none gS0 yX2_choose 2 3 := ⟨m_163, rfl, rfl, ⟨plainFor_of_name (by decide), fun h => absurd h (by decide)⟩, by decide, by decide, q925, q70, ⟨by decide, by decide, by decide +kernel⟩⟩
theorem cal_164 : gCal gT 164 "CuttingRoom" "checkTurns" cX1_checkTurns 1 none gS0 yX1_checkTurns 1 1 := ⟨m_164, rfl, rfl, ⟨plainFor_of_name (by decide), fun h => absurd h (by decide)⟩, by decide, by decide, q928, q66, ⟨by decide, by decide, by decide +kernel⟩⟩
theorem cal_165 : gCal gT 165 "CuttingRoom$Spot" "move" cX2_move 4 none gS0 yX2_move 3 4 := ⟨m_165, rfl, rfl, ⟨plainFor_of_name (by decide), fun h => absurd h (by decide)⟩, by decide, by decide, q932, q70, ⟨by decide, by decide, by decide +kernel⟩⟩
theorem cal_166 : gCal gT 166 "CuttingRoom" "findReason" cX1_findReason 7 (some .char) gS0 yX1_findReason 1 2 := ⟨m_166, rfl, rfl, ⟨plainFor_of_name (by decide), fun h => absurd h (by decide)⟩, by decide, by decide, q936, q66, ⟨by decide, by decide, by decide +kernel⟩⟩
theorem cal_167 : gCal gT 167 "CuttingRoom" "putIntoMarker" cX1_putIntoMarker 2 (some .int) gS0 yX1_putIntoMarker 0 1 := ⟨m_167, rfl, rfl, ⟨plainFor_of_name (by decide), fun h => absurd h (by decide)⟩, by decide, by decide, q944, q66, ⟨by decide, by decide, by decide +kernel⟩⟩
theorem cal_168 : gCal gT 168 "CuttingRoomModel" "mayTurn" cX4_mayTurn 3 (some .boolean) gS0 yX4_mayTurn 2 3 := ⟨m_168, rfl, rfl, ⟨plainFor_of_name (by decide), fun h => absurd h (by decide)⟩, by decide, by decide, q1608, q73, ⟨by decide, by decide, by decide +kernel⟩⟩
theorem cal_169 : gCal gT 169 "CuttingRoomModel" "turns" cX4_turns 8 none gS0 yX4_turns 3 4 := ⟨m_169, rfl, rfl, ⟨plainFor_of_name (by decide), fun h => absurd h (by decide)⟩, by decide, by decide, q1612, q73, ⟨by decide, by decide, by decide +kernel⟩⟩
theorem cal_170 : gCal gT 170 "CuttingRoomModel" "worst" cX4_worst 8 (some .int) gS0 yX4_worst 2 3 := ⟨m_170, rfl, rfl, ⟨plainFor_of_name (by decide), fun h => absurd h (by decide)⟩, by decide, by decide, q1622, q73, ⟨by decide, by decide, by decide +kernel⟩⟩
theorem cal_171 : gCal gT 171 "CuttingRoomModel" "isMarked" cX4_isMarked 2 (some .boolean) gS0 yX4_isMarked 1 2 := ⟨m_171, rfl, rfl, ⟨plainFor_of_name (by decide), fun h => absurd h (by decide)⟩, by decide, by decide, q1634, q73, ⟨by decide, by decide, by decide +kernel⟩⟩
theorem cal_172 : gCal gT 172 "CuttingRoomModel" "remainder" cX4_remainder 3 (some .int) gS0 yX4_remainder 1 2 := ⟨m_172, rfl, rfl, ⟨plainFor_of_name (by decide), fun h => absurd h (by decide)⟩, by decide, by decide, q1638, q73, ⟨by decide, by decide, by decide +kernel⟩⟩
theorem cal_173 : gCal gT 173 "CuttingRoom" "findNest" cX1_findNest 5 (some .boolean) gS0 yX1_findNest 1 2 := ⟨m_173, rfl, rfl, ⟨plainFor_of_name (by decide), fun h => absurd h (by decide)⟩, by decide, by decide, q1003, q66, ⟨by decide, by decide, by decide +kernel⟩⟩
theorem cal_174 : gCal gT 174 "CuttingRoom" "checkedPiece" cX1_checkedPiece 4 (some (.object "CuttingRoom$Piece")) gS0 yX1_checkedPiece 1 2 := ⟨m_174, rfl, rfl, ⟨plainFor_of_name (by decide), fun h => absurd h (by decide)⟩, by decide, by decide, q444, q66, ⟨by decide, by decide, by decide +kernel⟩⟩
theorem cal_175 : gCal gT 175 "java/util/ArrayList" "remove" cJ2_remove 5 (some .boolean) gS0 yJ2_remove 1 2 := ⟨m_175, rfl, rfl, ⟨plainFor_of_name (by decide), fun h => absurd h (by decide)⟩, by decide, by decide, q1019, q69, ⟨by decide, by decide, by decide +kernel⟩⟩
theorem cal_176 : gCal gT 176 "CuttingRoom" "layAgain" cX1_layAgain 3 none gS0 yX1_layAgain 0 1 := ⟨m_176, rfl, rfl, ⟨plainFor_of_name (by decide), fun h => absurd h (by decide)⟩, by decide, by decide, q1056, q66, ⟨by decide, by decide, by decide +kernel⟩⟩
theorem cal_177 : gCal gT 177 "CuttingRoom" "checkCell" cX1_checkCell 2 none gS0 yX1_checkCell 2 2 := ⟨m_177, rfl, rfl, ⟨plainFor_of_name (by decide), fun h => absurd h (by decide)⟩, by decide, by decide, q1093, q66, ⟨by decide, by decide, by decide +kernel⟩⟩
theorem cal_178 : gCal gT 178 "java/util/ArrayList" "get" cJ2_get 2 (some (.object "java/lang/Object")) gS0 yJ2_get 1 2 := ⟨m_178, rfl, rfl, ⟨plainFor_of_name (by decide), fun h => absurd h (by decide)⟩, by decide, by decide, q412, q69, ⟨by decide, by decide, by decide +kernel⟩⟩
theorem cal_179 : gCal gT 179 "CuttingRoom$Piece" "has" cX8_has 3 (some .boolean) gS0 yX8_has 2 3 := ⟨m_179, rfl, rfl, ⟨plainFor_of_name (by decide), fun h => absurd h (by decide)⟩, by decide, by decide, q516, q93, ⟨by decide, by decide, by decide +kernel⟩⟩
theorem cal_180 : gCal gT 180 "CuttingRoom$Style" "<init>" cX9_init 1 none gS0 yX9_init 0 1 := ⟨m_180, rfl, rfl, ⟨plainFor_of_name (by decide), fun _ h => absurd h (by decide)⟩, by decide, by decide, q1118, q95, ⟨by decide, by decide, by decide +kernel⟩⟩
theorem cal_181 : gCal gT 181 "CuttingRoom" "checkedStyle" cX1_checkedStyle 2 (some (.object "CuttingRoom$Style")) gS0 yX1_checkedStyle 1 2 := ⟨m_181, rfl, rfl, ⟨plainFor_of_name (by decide), fun h => absurd h (by decide)⟩, by decide, by decide, q1140, q66, ⟨by decide, by decide, by decide +kernel⟩⟩
theorem cal_182 : gCal gT 182 "CuttingRoom$Style" "hasShape" cX9_hasShape 4 (some .boolean) gS0 yX9_hasShape 1 2 := ⟨m_182, rfl, rfl, ⟨plainFor_of_name (by decide), fun h => absurd h (by decide)⟩, by decide, by decide, q1144, q95, ⟨by decide, by decide, by decide +kernel⟩⟩
theorem cal_183 : gCal gT 183 "CuttingRoom$Part" "<init>" cX10_init 3 none gS0 yX10_init 2 3 := ⟨m_183, rfl, rfl, ⟨plainFor_of_name (by decide), fun _ h => absurd h (by decide)⟩, by decide, by decide, q1149, q96, ⟨by decide, by decide, by decide +kernel⟩⟩
theorem cal_184 : gCal gT 184 "CuttingRoom$Style" "pieces" cX9_pieces 4 (some .int) gS0 yX9_pieces 0 1 := ⟨m_184, rfl, rfl, ⟨plainFor_of_name (by decide), fun h => absurd h (by decide)⟩, by decide, by decide, q531, q95, ⟨by decide, by decide, by decide +kernel⟩⟩
theorem cal_185 : gCal gT 185 "CuttingRoom" "findLeast" cX1_findLeast 5 (some .int) gS0 yX1_findLeast 2 3 := ⟨m_185, rfl, rfl, ⟨plainFor_of_name (by decide), fun h => absurd h (by decide)⟩, by decide, by decide, q1179, q66, ⟨by decide, by decide, by decide +kernel⟩⟩
theorem cal_186 : gCal gT 186 "CuttingRoomModel" "tries" cX4_tries 4 none gS0 yX4_tries 1 2 := ⟨m_186, rfl, rfl, ⟨plainFor_of_name (by decide), fun h => absurd h (by decide)⟩, by decide, by decide, q1751, q73, ⟨by decide, by decide, by decide +kernel⟩⟩
theorem cal_187 : gCal gT 187 "CuttingRoom" "hasRoomFor" cX1_hasRoomFor 4 (some .boolean) gS0 yX1_hasRoomFor 1 2 := ⟨m_187, rfl, rfl, ⟨plainFor_of_name (by decide), fun h => absurd h (by decide)⟩, by decide, by decide, q1273, q66, ⟨by decide, by decide, by decide +kernel⟩⟩
theorem cal_188 : gCal gT 188 "CuttingRoom" "givenBy" cX1_givenBy 6 (some .int) gS0 yX1_givenBy 2 3 := ⟨m_188, rfl, rfl, ⟨plainFor_of_name (by decide), fun h => absurd h (by decide)⟩, by decide, by decide, q1277, q66, ⟨by decide, by decide, by decide +kernel⟩⟩
theorem cal_189 : gCal gT 189 "CuttingRoom" "checkedStyleWithParts" cX1_checkedStyleWithParts 3 (some (.object "CuttingRoom$Style")) gS0 yX1_checkedStyleWithParts 1 2 := ⟨m_189, rfl, rfl, ⟨plainFor_of_name (by decide), fun h => absurd h (by decide)⟩, by decide, by decide, q1295, q66, ⟨by decide, by decide, by decide +kernel⟩⟩
theorem cal_190 : gCal gT 190 "CuttingRoom$Style" "canMake" cX9_canMake 4 (some .int) gS0 yX9_canMake 0 1 := ⟨m_190, rfl, rfl, ⟨plainFor_of_name (by decide), fun h => absurd h (by decide)⟩, by decide, by decide, q1299, q95, ⟨by decide, by decide, by decide +kernel⟩⟩
theorem cal_191 : gCal gT 191 "CuttingRoom" "isEnoughFor" cX1_isEnoughFor 8 (some .boolean) gS0 yX1_isEnoughFor 3 4 := ⟨m_191, rfl, rfl, ⟨plainFor_of_name (by decide), fun h => absurd h (by decide)⟩, by decide, by decide, q1316, q66, ⟨by decide, by decide, by decide +kernel⟩⟩
theorem cal_192 : gCal gT 192 "CuttingRoom$Style" "take" cX9_take 4 none gS0 yX9_take 1 2 := ⟨m_192, rfl, rfl, ⟨plainFor_of_name (by decide), fun h => absurd h (by decide)⟩, by decide, by decide, q1327, q95, ⟨by decide, by decide, by decide +kernel⟩⟩
theorem cal_193 : gCal gT 193 "CuttingRoom" "checkMarker" cX1_checkMarker 1 none gS0 yX1_checkMarker 0 1 := ⟨m_193, rfl, rfl, ⟨plainFor_of_name (by decide), fun h => absurd h (by decide)⟩, by decide, by decide, q1370, q66, ⟨by decide, by decide, by decide +kernel⟩⟩
theorem cal_194 : gCal gT 194 "CuttingRoom" "columns" cX1_columns 1 (some .int) gS0 yX1_columns 0 1 := ⟨m_194, rfl, rfl, ⟨plainFor_of_name (by decide), fun h => absurd h (by decide)⟩, by decide, by decide, q253, q66, ⟨by decide, by decide, by decide +kernel⟩⟩
theorem cal_195 : gCal gT 195 "java/util/AbstractCollection" "<init>" cJ0_init 1 none gS0 yJ0_init 0 1 := ⟨m_195, rfl, rfl, ⟨plainFor_of_name (by decide), fun _ h => absurd h (by decide)⟩, by decide, by decide, q118, q67, ⟨by decide, by decide, by decide +kernel⟩⟩
theorem cal_196 : gCal gT 196 "java/util/ArrayList" "add" cJ2_add_2 4 none gS0 yJ2_add_2 3 4 := ⟨m_196, rfl, rfl, ⟨plainFor_of_name (by decide), fun h => absurd h (by decide)⟩, by decide, by decide, q756, q69, ⟨by decide, by decide, by decide +kernel⟩⟩
theorem cal_197 : gCal gT 197 "CuttingRoom" "checkedIndex" cX1_checkedIndex 2 (some (.object "java/lang/Object")) gS0 yX1_checkedIndex 2 2 := ⟨m_197, rfl, rfl, ⟨plainFor_of_name (by decide), fun h => absurd h (by decide)⟩, by decide, by decide, q863, q66, ⟨by decide, by decide, by decide +kernel⟩⟩
theorem cal_198 : gCal gT 198 "CuttingRoom$Cell" "isAt" cX6_isAt 3 (some .boolean) gS0 yX6_isAt 2 3 := ⟨m_198, rfl, rfl, ⟨plainFor_of_name (by decide), fun h => absurd h (by decide)⟩, by decide, by decide, q893, q83, ⟨by decide, by decide, by decide +kernel⟩⟩
theorem cal_199 : gCal gT 199 "CuttingRoom$Variant" "<init>" cX7_init 8 none gS0 yX7_init 3 4 := ⟨m_199, rfl, rfl, ⟨plainFor_of_name (by decide), fun _ h => absurd h (by decide)⟩, by decide, by decide, q675, q84, ⟨by decide, by decide, by decide +kernel⟩⟩
theorem cal_200 : gCal gT 200 "CuttingRoom" "lambda$new$0" cX1_lambda_new_0 2 (some .char) gS0 yX1_lambda_new_0 1 2 := ⟨m_200, rfl, rfl, ⟨plainFor_of_name (by decide), fun h => absurd h (by decide)⟩, by decide, by decide, q203, q66, ⟨by decide, by decide, by decide +kernel⟩⟩
theorem cal_201 : gCal gT 201 "CuttingRoom" "lambda$new$1" cX1_lambda_new_1 2 (some .char) gS0 yX1_lambda_new_1 1 2 := ⟨m_201, rfl, rfl, ⟨plainFor_of_name (by decide), fun h => absurd h (by decide)⟩, by decide, by decide, q220, q66, ⟨by decide, by decide, by decide +kernel⟩⟩
theorem cal_202 : gCal gT 202 "CuttingRoom" "lambda$new$2" cX1_lambda_new_2 2 (some .char) gS0 yX1_lambda_new_2 1 2 := ⟨m_202, rfl, rfl, ⟨plainFor_of_name (by decide), fun h => absurd h (by decide)⟩, by decide, by decide, q239, q66, ⟨by decide, by decide, by decide +kernel⟩⟩
theorem cal_203 : gCal gT 203 "CuttingRoom" "lambda$new$3" cX1_lambda_new_3 2 (some .char) gS0 yX1_lambda_new_3 1 2 := ⟨m_203, rfl, rfl, ⟨plainFor_of_name (by decide), fun h => absurd h (by decide)⟩, by decide, by decide, q242, q66, ⟨by decide, by decide, by decide +kernel⟩⟩
theorem cal_204 : gCal gT 204 "CuttingRoom" "lambda$new$4" cX1_lambda_new_4 2 (some .char) gS0 yX1_lambda_new_4 1 2 := ⟨m_204, rfl, rfl, ⟨plainFor_of_name (by decide), fun h => absurd h (by decide)⟩, by decide, by decide, q272, q66, ⟨by decide, by decide, by decide +kernel⟩⟩
theorem cal_205 : gCal gT 205 "CuttingRoom" "lambda$new$5" cX1_lambda_new_5 1 (some .char) gS0 yX1_lambda_new_5 1 1 := ⟨m_205, rfl, rfl, ⟨plainFor_of_name (by decide), fun h => absurd h (by decide)⟩, by decide, by decide, q282, q66, ⟨by decide, by decide, by decide +kernel⟩⟩
theorem cal_206 : gCal gT 206 "CuttingRoom" "lambda$new$6" cX1_lambda_new_6 1 (some .char) gS0 yX1_lambda_new_6 1 1 := ⟨m_206, rfl, rfl, ⟨plainFor_of_name (by decide), fun h => absurd h (by decide)⟩, by decide, by decide, q295, q66, ⟨by decide, by decide, by decide +kernel⟩⟩
theorem cal_207 : gCal gT 207 "CuttingRoom$Piece" "<init>" cX8_init 3 none gS0 yX8_init 2 3 := ⟨m_207, rfl, rfl, ⟨plainFor_of_name (by decide), fun _ h => absurd h (by decide)⟩, by decide, by decide, q948, q93, ⟨by decide, by decide, by decide +kernel⟩⟩
theorem cal_208 : gCal gT 208 "CuttingRoom$Sheet" "put" cX3_put 3 none gS0 yX3_put 1 2 := ⟨m_208, rfl, rfl, ⟨plainFor_of_name (by decide), fun h => absurd h (by decide)⟩, by decide, by decide, q983, q71, ⟨by decide, by decide, by decide +kernel⟩⟩
theorem cal_209 : gCal gT 209 "CuttingRoomModel" "turnedRow" cX4_turnedRow 3 (some .int) gS0 yX4_turnedRow 3 3 := ⟨m_209, rfl, rfl, ⟨plainFor_of_name (by decide), fun h => absurd h (by decide)⟩, by decide, by decide, q1615, q73, ⟨by decide, by decide, by decide +kernel⟩⟩
theorem cal_210 : gCal gT 210 "CuttingRoomModel" "turnedColumn" cX4_turnedColumn 3 (some .int) gS0 yX4_turnedColumn 3 3 := ⟨m_210, rfl, rfl, ⟨plainFor_of_name (by decide), fun h => absurd h (by decide)⟩, by decide, by decide, q1618, q73, ⟨by decide, by decide, by decide +kernel⟩⟩
theorem cal_211 : gCal gT 211 "CuttingRoomModel" "isBad" cX4_isBad 3 (some .boolean) gS0 yX4_isBad 2 3 := ⟨m_211, rfl, rfl, ⟨plainFor_of_name (by decide), fun h => absurd h (by decide)⟩, by decide, by decide, q1630, q73, ⟨by decide, by decide, by decide +kernel⟩⟩
theorem cal_212 : gCal gT 212 "java/lang/Object" "equals" cJ20_equals 2 (some .boolean) gS0 yJ20_equals 1 2 := ⟨m_212, rfl, rfl, ⟨by decide +kernel, fun h => absurd h (by decide)⟩, by decide, by decide, q1047, q1831, ⟨by decide, by decide, by decide +kernel⟩⟩
theorem cal_213 : gCal gT 213 "java/util/ArrayList" "fastRemove" cJ2_fastRemove 4 none gS0 yJ2_fastRemove 2 3 := ⟨m_213, rfl, rfl, ⟨plainFor_of_name (by decide), fun h => absurd h (by decide)⟩, by decide, by decide, q1051, q69, ⟨by decide, by decide, by decide +kernel⟩⟩
theorem cal_214 : gCal gT 214 "CuttingRoom$Spot" "choose" cX2_choose_2 2 none gS0 yX2_choose_2 1 2 := ⟨m_214, rfl, rfl, ⟨plainFor_of_name (by decide), fun h => absurd h (by decide)⟩, by decide, by decide, q1060, q70, ⟨by decide, by decide, by decide +kernel⟩⟩
theorem cal_215 : gCal gT 215 "java/util/Objects" "checkIndex" cJ11_checkIndex 2 (some .int) gS0 yJ11_checkIndex 2 2 := ⟨m_215, rfl, rfl, ⟨plainFor_of_name (by decide), fun h => absurd h (by decide)⟩, by decide, by decide, q415, q85, ⟨by decide, by decide, by decide +kernel⟩⟩
theorem cal_216 : gCal gT 216 "java/util/ArrayList" "elementData" cJ2_elementData 2 (some (.object "java/lang/Object")) gS0 yJ2_elementData 1 2 := ⟨m_216, rfl, rfl, ⟨plainFor_of_name (by decide), fun h => absurd h (by decide)⟩, by decide, by decide, q422, q69, ⟨by decide, by decide, by decide +kernel⟩⟩
theorem cal_217 : gCal gT 217 "CuttingRoom$Shape" "variant" cX5_variant 3 (some (.object "CuttingRoom$Variant")) gS0 yX5_variant 2 3 := ⟨m_217, rfl, rfl, ⟨plainFor_of_name (by decide), fun h => absurd h (by decide)⟩, by decide, by decide, q265, q82, ⟨by decide, by decide, by decide +kernel⟩⟩
theorem cal_218 : gCal gT 218 "CuttingRoom$Variant" "has" cX7_has 4 (some .boolean) gS0 yX7_has 2 3 := ⟨m_218, rfl, rfl, ⟨plainFor_of_name (by decide), fun h => absurd h (by decide)⟩, by decide, by decide, q521, q84, ⟨by decide, by decide, by decide +kernel⟩⟩
theorem cal_219 : gCal gT 219 "CuttingRoom$Part" "pieces" cX10_pieces 1 (some .int) gS0 yX10_pieces 0 1 := ⟨m_219, rfl, rfl, ⟨plainFor_of_name (by decide), fun h => absurd h (by decide)⟩, by decide, by decide, q540, q96, ⟨by decide, by decide, by decide +kernel⟩⟩
theorem cal_220 : gCal gT 220 "CuttingRoom" "sortsFor" cX1_sortsFor 6 (some (.object "java/util/List")) gS0 yX1_sortsFor 1 2 := ⟨m_220, rfl, rfl, ⟨plainFor_of_name (by decide), fun h => absurd h (by decide)⟩, by decide, by decide, q1183, q66, ⟨by decide, by decide, by decide +kernel⟩⟩
theorem cal_221 : gCal gT 221 "CuttingRoom$Orders" "<init>" cX12_init 4 none gS0 yX12_init 3 4 := ⟨m_221, rfl, rfl, ⟨plainFor_of_name (by decide), fun _ h => absurd h (by decide)⟩, by decide, by decide, q1206, q98, ⟨by decide, by decide, by decide +kernel⟩⟩
theorem cal_222 : gCal gT 222 "CuttingRoom$Orders" "tryFrom" cX12_tryFrom 3 none gS0 yX12_tryFrom 1 2 := ⟨m_222, rfl, rfl, ⟨plainFor_of_name (by decide), fun h => absurd h (by decide)⟩, by decide, by decide, q1230, q98, ⟨by decide, by decide, by decide +kernel⟩⟩
theorem cal_223 : gCal gT 223 "CuttingRoom$Shape" "enoughFor" cX5_enoughFor 2 (some .int) gS0 yX5_enoughFor 1 2 := ⟨m_223, rfl, rfl, ⟨plainFor_of_name (by decide), fun h => absurd h (by decide)⟩, by decide, by decide, q1303, q82, ⟨by decide, by decide, by decide +kernel⟩⟩
theorem cal_224 : gCal gT 224 "java/lang/Math" "min" cJ3_min 2 (some .int) gS0 yJ3_min 2 2 := ⟨m_224, rfl, rfl, ⟨by decide +kernel, fun h => absurd h (by decide)⟩, by decide, by decide, q690, q72, ⟨by decide, by decide, by decide +kernel⟩⟩
theorem cal_225 : gCal gT 225 "CuttingRoom$Shape" "take" cX5_take 2 none gS0 yX5_take 1 2 := ⟨m_225, rfl, rfl, ⟨plainFor_of_name (by decide), fun h => absurd h (by decide)⟩, by decide, by decide, q1331, q82, ⟨by decide, by decide, by decide +kernel⟩⟩
theorem cal_226 : gCal gT 226 "java/util/ArrayList" "grow" cJ2_grow 1 (some (.array (.object "java/lang/Object"))) gS0 yJ2_grow 0 1 := ⟨m_226, rfl, rfl, ⟨plainFor_of_name (by decide), fun h => absurd h (by decide)⟩, by decide, by decide, q760, q69, ⟨by decide, by decide, by decide +kernel⟩⟩
theorem cal_227 : gCal gT 227 "CuttingRoom$Cell" "changed" cX6_changed 5 (some (.object "CuttingRoom$Cell")) gS0 yX6_changed 2 3 := ⟨m_227, rfl, rfl, ⟨plainFor_of_name (by decide), fun h => absurd h (by decide)⟩, by decide, by decide, q685, q83, ⟨by decide, by decide, by decide +kernel⟩⟩
theorem cal_228 : gCal gT 228 "CuttingRoom$Spot" "cells" cX2_cells 1 (some .int) gS0 yX2_cells 0 1 := ⟨m_228, rfl, rfl, ⟨plainFor_of_name (by decide), fun h => absurd h (by decide)⟩, by decide, by decide, q207, q70, ⟨by decide, by decide, by decide +kernel⟩⟩
theorem cal_229 : gCal gT 229 "CuttingRoom" "canTurn" cX1_canTurn 1 (some .boolean) gS0 yX1_canTurn 0 1 := ⟨m_229, rfl, rfl, ⟨plainFor_of_name (by decide), fun h => absurd h (by decide)⟩, by decide, by decide, q224, q66, ⟨by decide, by decide, by decide +kernel⟩⟩
theorem cal_230 : gCal gT 230 "CuttingRoom" "isInside" cX1_isInside 2 (some .boolean) gS0 yX1_isInside 0 1 := ⟨m_230, rfl, rfl, ⟨plainFor_of_name (by decide), fun h => absurd h (by decide)⟩, by decide, by decide, q246, q66, ⟨by decide, by decide, by decide +kernel⟩⟩
theorem cal_231 : gCal gT 231 "CuttingRoom" "isOnFlaw" cX1_isOnFlaw 2 (some .boolean) gS0 yX1_isOnFlaw 0 1 := ⟨m_231, rfl, rfl, ⟨plainFor_of_name (by decide), fun h => absurd h (by decide)⟩, by decide, by decide, q276, q66, ⟨by decide, by decide, by decide +kernel⟩⟩
theorem cal_232 : gCal gT 232 "CuttingRoom$Sheet" "isTaken" cX3_isTaken 2 (some .boolean) gS0 yX3_isTaken 0 1 := ⟨m_232, rfl, rfl, ⟨plainFor_of_name (by decide), fun h => absurd h (by decide)⟩, by decide, by decide, q286, q71, ⟨by decide, by decide, by decide +kernel⟩⟩
theorem cal_233 : gCal gT 233 "CuttingRoom$Sheet" "meets" cX3_meets 1 (some .boolean) gS0 yX3_meets 0 1 := ⟨m_233, rfl, rfl, ⟨plainFor_of_name (by decide), fun h => absurd h (by decide)⟩, by decide, by decide, q299, q71, ⟨by decide, by decide, by decide +kernel⟩⟩
theorem cal_234 : gCal gT 234 "CuttingRoom$Spot" "rowOf" cX2_rowOf 2 (some .int) gS0 yX2_rowOf 1 2 := ⟨m_234, rfl, rfl, ⟨plainFor_of_name (by decide), fun h => absurd h (by decide)⟩, by decide, by decide, q257, q70, ⟨by decide, by decide, by decide +kernel⟩⟩
theorem cal_235 : gCal gT 235 "CuttingRoom$Spot" "columnOf" cX2_columnOf 2 (some .int) gS0 yX2_columnOf 1 2 := ⟨m_235, rfl, rfl, ⟨plainFor_of_name (by decide), fun h => absurd h (by decide)⟩, by decide, by decide, q269, q70, ⟨by decide, by decide, by decide +kernel⟩⟩
theorem cal_236 : gCal gT 236 "java/lang/Math" "max" cJ3_max 2 (some .int) gS0 yJ3_max 2 2 := ⟨m_236, rfl, rfl, ⟨by decide +kernel, fun h => absurd h (by decide)⟩, by decide, by decide, q770, q72, ⟨by decide, by decide, by decide +kernel⟩⟩
theorem cal_237 : gCal gT 237 "CuttingRoom$Sheet" "hasRemainder" cX3_hasRemainder 1 (some .boolean) gS0 yX3_hasRemainder 0 1 := ⟨m_237, rfl, rfl, ⟨plainFor_of_name (by decide), fun h => absurd h (by decide)⟩, by decide, by decide, q303, q71, ⟨by decide, by decide, by decide +kernel⟩⟩
theorem cal_238 : gCal gT 238 "CuttingRoom$Sheet" "remainder" cX3_remainder 1 (some .int) gS0 yX3_remainder 0 1 := ⟨m_238, rfl, rfl, ⟨plainFor_of_name (by decide), fun h => absurd h (by decide)⟩, by decide, by decide, q307, q71, ⟨by decide, by decide, by decide +kernel⟩⟩
theorem cal_239 : gCal gT 239 "jdk/internal/util/Preconditions" "checkIndex" cJ12_checkIndex 3 (some .int) gS0 yJ12_checkIndex 3 3 := ⟨m_239, rfl, rfl, ⟨plainFor_of_name (by decide), fun h => absurd h (by decide)⟩, by decide, by decide, q418, q86, ⟨by decide, by decide, by decide +kernel⟩⟩
theorem cal_240 : gCal gT 240 "CuttingRoom" "addSorts" cX1_addSorts 5 none gS0 yX1_addSorts 4 4 := ⟨m_240, rfl, rfl, ⟨plainFor_of_name (by decide), fun h => absurd h (by decide)⟩, by decide, by decide, q1186, q66, ⟨by decide, by decide, by decide +kernel⟩⟩
theorem cal_241 : gCal gT 241 "CuttingRoom$Orders" "nestFirst" cX12_nestFirst 4 (some .int) gS0 yX12_nestFirst 1 2 := ⟨m_241, rfl, rfl, ⟨plainFor_of_name (by decide), fun h => absurd h (by decide)⟩, by decide, by decide, q1234, q98, ⟨by decide, by decide, by decide +kernel⟩⟩
theorem cal_242 : gCal gT 242 "CuttingRoom$Orders" "isInOrder" cX12_isInOrder 4 (some .boolean) gS0 yX12_isInOrder 2 3 := ⟨m_242, rfl, rfl, ⟨plainFor_of_name (by decide), fun h => absurd h (by decide)⟩, by decide, by decide, q1246, q98, ⟨by decide, by decide, by decide +kernel⟩⟩
theorem cal_243 : gCal gT 243 "java/util/ArrayList" "grow" cJ2_grow_2 4 (some (.array (.object "java/lang/Object"))) gS0 yJ2_grow_2 1 2 := ⟨m_243, rfl, rfl, ⟨plainFor_of_name (by decide), fun h => absurd h (by decide)⟩, by decide, by decide, q764, q69, ⟨by decide, by decide, by decide +kernel⟩⟩
theorem cal_247 : gCal gT 247 "CuttingRoom" "isFlawed" cX1_isFlawed 3 (some .boolean) gS0 yX1_isFlawed 2 3 := ⟨m_247, rfl, rfl, ⟨plainFor_of_name (by decide), fun h => absurd h (by decide)⟩, by decide, by decide, q280, q66, ⟨by decide, by decide, by decide +kernel⟩⟩
theorem cal_248 : gCal gT 248 "CuttingRoom$Spot" "variant" cX2_variant 1 (some (.object "CuttingRoom$Variant")) gS0 yX2_variant 0 1 := ⟨m_248, rfl, rfl, ⟨plainFor_of_name (by decide), fun h => absurd h (by decide)⟩, by decide, by decide, q261, q70, ⟨by decide, by decide, by decide +kernel⟩⟩
theorem cal_249 : gCal gT 249 "CuttingRoom$Spot" "markRow" cX2_markRow 1 (some .int) gS0 yX2_markRow 0 1 := ⟨m_249, rfl, rfl, ⟨plainFor_of_name (by decide), fun h => absurd h (by decide)⟩, by decide, by decide, q311, q70, ⟨by decide, by decide, by decide +kernel⟩⟩
theorem cal_250 : gCal gT 250 "java/lang/Math" "floorMod" cJ3_floorMod 3 (some .int) gS0 yJ3_floorMod 2 2 := ⟨m_250, rfl, rfl, ⟨by decide +kernel, fun h => absurd h (by decide)⟩, by decide, by decide, q314, q72, ⟨by decide, by decide, by decide +kernel⟩⟩
theorem cal_251 : gCal gT 251 "CuttingRoom$Sort" "<init>" cX11_init 3 none gS0 yX11_init 2 3 := ⟨m_251, rfl, rfl, ⟨plainFor_of_name (by decide), fun _ h => absurd h (by decide)⟩, by decide, by decide, q1191, q97, ⟨by decide, by decide, by decide +kernel⟩⟩
theorem cal_252 : gCal gT 252 "jdk/internal/util/ArraysSupport" "newLength" cJ13_newLength 4 (some .int) gS0 yJ13_newLength 3 3 := ⟨m_252, rfl, rfl, ⟨plainFor_of_name (by decide), fun h => absurd h (by decide)⟩, by decide, by decide, q767, q87, ⟨by decide, by decide, by decide +kernel⟩⟩
theorem cal_253 : gCal gT 253 "java/util/Arrays" "copyOf" cJ14_copyOf 2 (some (.array (.object "java/lang/Object"))) gS0 yJ14_copyOf 2 2 := ⟨m_253, rfl, rfl, ⟨plainFor_of_name (by decide), fun h => absurd h (by decide)⟩, by decide, by decide, q777, q88, ⟨by decide, by decide, by decide +kernel⟩⟩
theorem cal_254 : gCal gT 254 "jdk/internal/util/ArraysSupport" "hugeLength" cJ13_hugeLength 3 (some .int) gS0 yJ13_hugeLength 2 2 := ⟨m_254, rfl, rfl, ⟨plainFor_of_name (by decide), fun h => absurd h (by decide)⟩, by decide, by decide, q774, q87, ⟨by decide, by decide, by decide +kernel⟩⟩
theorem cal_255 : gCal gT 255 "java/util/Arrays" "copyOf" cJ14_copyOf_2 4 (some (.array (.object "java/lang/Object"))) gS0 yJ14_copyOf_2 3 3 := ⟨m_255, rfl, rfl, ⟨plainFor_of_name (by decide), fun h => absurd h (by decide)⟩, by decide, by decide, q807, q88, ⟨by decide, by decide, by decide +kernel⟩⟩
theorem gHTYI {Z : gZ} (s : State) (h : va_RA s (gZA Z 0) .int) : s.vm.findClass ("[" ++ FieldType.int.toString) = some (gZA Z 0) := va_nm_int h
theorem gHTYZ {Z : gZ} (s : State) (h : va_RA s (gZA Z 1) .boolean) : s.vm.findClass ("[" ++ FieldType.boolean.toString) = some (gZA Z 1) := va_nm_boolean h
def gLm (j : Nat) : Nat := if j = 0 then 200 else if j = 1 then 201 else if j = 2 then 202 else if j = 3 then 203 else if j = 4 then 204 else if j = 5 then 205 else 206
def gLc (j : Nat) : ByteArray := if j = 0 then cX1_lambda_new_0 else if j = 1 then cX1_lambda_new_1 else if j = 2 then cX1_lambda_new_2 else if j = 3 then cX1_lambda_new_3 else if j = 4 then cX1_lambda_new_4 else if j = 5 then cX1_lambda_new_5 else cX1_lambda_new_6
def gLy (j : Nat) : MethodName := if j = 0 then yX1_lambda_new_0 else if j = 1 then yX1_lambda_new_1 else if j = 2 then yX1_lambda_new_2 else if j = 3 then yX1_lambda_new_3 else if j = 4 then yX1_lambda_new_4 else if j = 5 then yX1_lambda_new_5 else yX1_lambda_new_6
theorem gLb : ∀ j, j < 5 → gCal gT (gLm j) "CuttingRoom" (gsg j).implName (gLc j) 2 (some .char) gS0 (gLy j) 1 2 ∧ gLy j = ⟨"CuttingRoom", (gsg j).implName, "(LCuttingRoom$Sheet;)C"⟩ ∧ Cond.instanceMethod (gLy j) ∈ lw_all ∧ Cond.selects "CuttingRoom" (gLy j) (gLy j) ∈ lw_all := by
  intro j hj
  match j, hj with
  | 0, _ => exact ⟨cal_200, rfl, q202, qs0⟩
  | 1, _ => exact ⟨cal_201, rfl, q219, qs1⟩
  | 2, _ => exact ⟨cal_202, rfl, q238, qs3⟩
  | 3, _ => exact ⟨cal_203, rfl, q241, qs4⟩
  | 4, _ => exact ⟨cal_204, rfl, q271, qs7⟩
  | j + 5, h => exact absurd h (by omega)
theorem gLs : ∀ j, j < 2 → gCal gT (gLm (5 + j)) "CuttingRoom" (gsg (5 + j)).implName (gLc (5 + j)) 1 (some .char) gS0 (gLy (5 + j)) 1 1 ∧ gLy (5 + j) = ⟨"CuttingRoom", (gsg (5 + j)).implName, "(LCuttingRoom$Sheet;)C"⟩ ∧ Cond.static (gLy (5 + j)) ∈ lw_all := by
  intro j hj
  match j, hj with
  | 0, _ => exact ⟨cal_205, rfl, q281⟩
  | 1, _ => exact ⟨cal_206, rfl, q294⟩
  | j + 2, h => exact absurd h (by omega)
theorem gth_4 : ∀ w ∈ vx_at0 "CuttingRoom" 124 (gex 4) ["java/lang/RuntimeException", "java/lang/Exception"], w ∈ lw_tbl := by
  intro w h
  have e : vx_at0 "CuttingRoom" 124 (gex 4) ["java/lang/RuntimeException", "java/lang/Exception"] = [74, 467, 476, 484, 487, 489, 468, 469, 106, 107, 470, 475, 485, 502, 457, 503, 459, 504, 461, 471, 473, 463, 491, 492, 493, 494, 448, 494, 495, 496, 497, 450, 497, 498, 499, 468, 452, 490, 446, 447, 454, 455, 456, 458, 460, 462, 466, 465, 464].filterMap (fun i => lw_tbl[i]?) := by decide +kernel
  rw [e] at h
  obtain ⟨i, -, hi⟩ := List.mem_filterMap.mp h
  exact List.mem_of_getElem? hi
theorem ggd_4 : (vx_at0 "CuttingRoom" 124 (gex 4) ["java/lang/RuntimeException", "java/lang/Exception"]).all (fun w => (goodWord w || gnwKind w) && vx_ot w) = true := by decide +kernel
theorem gth_1 : ∀ w ∈ vx_at0 "CuttingRoom" 73 (gex 1) ["java/lang/RuntimeException", "java/lang/Exception"], w ∈ lw_tbl := by
  intro w h
  have e : vx_at0 "CuttingRoom" 73 (gex 1) ["java/lang/RuntimeException", "java/lang/Exception"] = [74, 467, 476, 484, 487, 489, 468, 469, 106, 107, 470, 475, 485, 502, 457, 503, 459, 504, 461, 471, 473, 463, 590, 591, 592, 494, 448, 494, 495, 496, 497, 450, 497, 498, 499, 468, 452, 589, 581, 582, 583, 481, 584, 585, 586, 587, 466, 465, 588].filterMap (fun i => lw_tbl[i]?) := by decide +kernel
  rw [e] at h
  obtain ⟨i, -, hi⟩ := List.mem_filterMap.mp h
  exact List.mem_of_getElem? hi
theorem ggd_1 : (vx_at0 "CuttingRoom" 73 (gex 1) ["java/lang/RuntimeException", "java/lang/Exception"]).all (fun w => (goodWord w || gnwKind w) && vx_ot w) = true := by decide +kernel
theorem gth_0 : ∀ w ∈ vx_at0 "CuttingRoom" 70 (gex 0) ["java/lang/RuntimeException", "java/lang/Exception"], w ∈ lw_tbl := by
  intro w h
  have e : vx_at0 "CuttingRoom" 70 (gex 0) ["java/lang/RuntimeException", "java/lang/Exception"] = [74, 467, 476, 484, 487, 489, 468, 469, 106, 107, 470, 475, 485, 502, 457, 503, 459, 504, 461, 471, 473, 463, 563, 564, 565, 494, 448, 494, 495, 496, 497, 450, 497, 498, 499, 468, 452, 562, 554, 555, 556, 480, 557, 558, 559, 560, 466, 465, 561].filterMap (fun i => lw_tbl[i]?) := by decide +kernel
  rw [e] at h
  obtain ⟨i, -, hi⟩ := List.mem_filterMap.mp h
  exact List.mem_of_getElem? hi
theorem ggd_0 : (vx_at0 "CuttingRoom" 70 (gex 0) ["java/lang/RuntimeException", "java/lang/Exception"]).all (fun w => (goodWord w || gnwKind w) && vx_ot w) = true := by decide +kernel
theorem gth_2 : ∀ w ∈ vx_at0 "CuttingRoom" 76 (gex 2) ["java/lang/RuntimeException", "java/lang/Exception"], w ∈ lw_tbl := by
  intro w h
  have e : vx_at0 "CuttingRoom" 76 (gex 2) ["java/lang/RuntimeException", "java/lang/Exception"] = [74, 467, 476, 484, 487, 489, 468, 469, 106, 107, 470, 475, 485, 502, 457, 503, 459, 504, 461, 471, 473, 463, 623, 624, 625, 494, 448, 494, 495, 496, 497, 450, 497, 498, 499, 468, 452, 622, 614, 615, 616, 483, 617, 618, 619, 620, 466, 465, 621].filterMap (fun i => lw_tbl[i]?) := by decide +kernel
  rw [e] at h
  obtain ⟨i, -, hi⟩ := List.mem_filterMap.mp h
  exact List.mem_of_getElem? hi
theorem ggd_2 : (vx_at0 "CuttingRoom" 76 (gex 2) ["java/lang/RuntimeException", "java/lang/Exception"]).all (fun w => (goodWord w || gnwKind w) && vx_ot w) = true := by decide +kernel
theorem gth_5 : ∀ w ∈ vx_at0 "CuttingRoom" 405 (gex 5) ["java/lang/RuntimeException", "java/lang/Exception"], w ∈ lw_tbl := by
  intro w h
  have e : vx_at0 "CuttingRoom" 405 (gex 5) ["java/lang/RuntimeException", "java/lang/Exception"] = [74, 467, 476, 484, 487, 489, 468, 469, 106, 107, 470, 475, 485, 502, 457, 503, 459, 504, 461, 471, 473, 463, 1373, 1374, 1375, 494, 448, 494, 495, 496, 497, 450, 497, 498, 499, 468, 452, 1372, 1350, 1361, 1362, 478, 1356, 1357, 1359, 1355, 466, 465, 1354].filterMap (fun i => lw_tbl[i]?) := by decide +kernel
  rw [e] at h
  obtain ⟨i, -, hi⟩ := List.mem_filterMap.mp h
  exact List.mem_of_getElem? hi
theorem ggd_5 : (vx_at0 "CuttingRoom" 405 (gex 5) ["java/lang/RuntimeException", "java/lang/Exception"]).all (fun w => (goodWord w || gnwKind w) && vx_ot w) = true := by decide +kernel
theorem gth_3 : ∀ w ∈ vx_at0 "CuttingRoom" 89 (gex 3) ["java/lang/RuntimeException", "java/lang/Exception"], w ∈ lw_tbl := by
  intro w h
  have e : vx_at0 "CuttingRoom" 89 (gex 3) ["java/lang/RuntimeException", "java/lang/Exception"] = [74, 467, 476, 484, 487, 489, 468, 469, 106, 107, 470, 475, 485, 502, 457, 503, 459, 504, 461, 471, 473, 463, 874, 875, 876, 494, 448, 494, 495, 496, 497, 450, 497, 498, 499, 468, 452, 873, 865, 866, 867, 482, 868, 869, 870, 871, 466, 465, 872].filterMap (fun i => lw_tbl[i]?) := by decide +kernel
  rw [e] at h
  obtain ⟨i, -, hi⟩ := List.mem_filterMap.mp h
  exact List.mem_of_getElem? hi
theorem ggd_3 : (vx_at0 "CuttingRoom" 89 (gex 3) ["java/lang/RuntimeException", "java/lang/Exception"]).all (fun w => (goodWord w || gnwKind w) && vx_ot w) = true := by decide +kernel
