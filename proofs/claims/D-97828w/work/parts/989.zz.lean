theorem zz9 : True := trivial
